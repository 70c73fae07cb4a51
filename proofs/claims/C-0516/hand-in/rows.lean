section
theorem pk_us {f : Nat → Int32} {k : Nat} {x : Int32} : upd f k x k = x := if_pos rfl
theorem pk_un {f : Nat → Int32} {k j : Nat} {x : Int32} (h : j ≠ k) : upd f k x j = f j := if_neg h
theorem pk_uLs {f : Nat → Int64} {k : Nat} {x : Int64} : vp_updL f k x k = x := if_pos rfl
theorem pk_uLn {f : Nat → Int64} {k j : Nat} {x : Int64} (h : j ≠ k) : vp_updL f k x j = f j := if_neg h
theorem pk_sub {a b : Nat} (h : b ≤ a) : nI a - nI b = nI (a - b) := by
  obtain ⟨c, rfl⟩ : ∃ c, a = c + b := ⟨a - b, by omega⟩
  rw [← nI_add, Int32.add_sub_cancel, Nat.add_sub_cancel]
theorem pk_m1 (n : Nat) : nI (n + 1) + (-1) = nI n := by
  rw [← nI_1, Int32.add_assoc, show (1 : Int32) + (-1) = 0 from rfl, Int32.add_zero]
theorem pk_mul (a b : Nat) : nI a * nI b = nI (a * b) := (Int32.ofNat_mul a b).symm
theorem pk_div {a d : Nat} (ha : a < 2 ^ 31) (h0 : 0 < d) (hd : d < 2 ^ 31) : nI a / nI d = nI (a / d) := by
  apply Int32.toInt_inj.mp
  rw [lg_idiv_nonneg (by rw [nI_toInt ha]; omega) (by rw [nI_toInt hd]; omega), nI_toInt ha, nI_toInt hd, nI_toInt (Nat.lt_of_le_of_lt (Nat.div_le_self a d) ha)]
  first | rfl | exact (Int.natCast_ediv _ _).symm
theorem pk_le {x y : Int32} {A B : Prop} (a b : Nat) (f : a ≤ b → A) (g : b < a → B) (hx : x = nI a := by rfl) (hy : y = nI b := by rfl) (ha : a < 2 ^ 31 := by omega) (hb : b < 2 ^ 31 := by omega) : (x ≤ y → A) ∧ (¬ x ≤ y → B) := by
  subst hx hy
  rw [nI_leI ha hb]
  exact ⟨f, fun z => g (by omega)⟩
theorem pk_lt {x y : Int32} {A B : Prop} (a b : Nat) (f : a < b → A) (g : b ≤ a → B) (hx : x = nI a := by rfl) (hy : y = nI b := by rfl) (ha : a < 2 ^ 31 := by omega) (hb : b < 2 ^ 31 := by omega) : (x < y → A) ∧ (¬ x < y → B) := by
  subst hx hy
  rw [nI_ltI ha hb]
  exact ⟨f, fun z => g (by omega)⟩
theorem pk_eq {x y : Int32} {A B : Prop} (a b : Nat) (f : a = b → A) (g : a ≠ b → B) (hx : x = nI a := by rfl) (hy : y = nI b := by rfl) (ha : a < 2 ^ 31 := by omega) (hb : b < 2 ^ 31 := by omega) : (x = y → A) ∧ (¬ x = y → B) := by
  subst hx hy
  rw [nI_eq ha hb]
  exact ⟨f, g⟩
theorem pk_in {x : Int32} (n N : Nat) (h : n < N) (hx : x = nI n := by rfl) (hN : N < 2 ^ 31 := by omega) : vp_in x N := by
  subst hx
  exact vp_in_nI h hN
theorem pk_cl {x : Int32} (n : Nat) (hx : x = nI n := by rfl) (h : n < 2 ^ 31 := by omega) : x.toNatClampNeg = n := by
  subst hx
  exact nI_clamp h
theorem pk_lT {n : Nat} (h : n < 2 ^ 63) : (lN n).toInt = (n : Int) := lg_ofNat_toInt h
theorem pk_lLT {a b : Nat} (ha : a < 2 ^ 63) (hb : b < 2 ^ 63) : lN a < lN b ↔ a < b := by
  rw [Int64.lt_iff_toInt_lt, pk_lT ha, pk_lT hb]; omega
theorem pk_lLE {a b : Nat} (ha : a < 2 ^ 63) (hb : b < 2 ^ 63) : lN a ≤ lN b ↔ a ≤ b := by
  rw [Int64.le_iff_toInt_le, pk_lT ha, pk_lT hb]; omega
theorem pk_lEQ {a b : Nat} (ha : a < 2 ^ 63) (hb : b < 2 ^ 63) : lN a = lN b ↔ a = b := by
  rw [← Int64.toInt_inj, pk_lT ha, pk_lT hb]; omega
theorem wb_tb (n : Nat) : (lN n).toBitVec = BitVec.ofNat 64 n := rfl
theorem wb_inj {a b : Int64} (h : a.toBitVec = b.toBitVec) : a = b := Int64.toBitVec_inj.mp h
theorem wb_tn {n : Nat} (h : n < 2 ^ 64) : (lN n).toBitVec.toNat = n := by rw [wb_tb, BitVec.toNat_ofNat, Nat.mod_eq_of_lt h]
theorem wb_c : ∀ k, k < 64 → ((nI k).toInt64 &&& 63) = lN k := by decide +kernel
theorem wb_sm : ∀ k, k < 64 → (BitVec.ofNat 64 k).smod 64 = BitVec.ofNat 64 k := by decide +kernel
theorem wb_lt2 {a b : Nat} (h : a < b) : 2 ^ a < 2 ^ b := Nat.pow_lt_pow_right (by decide) h
theorem wb_shl (n : Nat) {k : Nat} (hk : k < 64) : lN n <<< ((nI k).toInt64 &&& 63) = lN (n * 2 ^ k) := by
  rw [wb_c k hk]
  apply wb_inj
  rw [Int64.toBitVec_shiftLeft, wb_tb, wb_tb, wb_tb, wb_sm k hk]
  apply BitVec.eq_of_toNat_eq
  rw [BitVec.shiftLeft_eq', BitVec.toNat_shiftLeft, BitVec.toNat_ofNat, BitVec.toNat_ofNat, BitVec.toNat_ofNat, Nat.mod_eq_of_lt (show k < 2 ^ 64 by omega), Nat.shiftLeft_eq, Nat.mul_mod, Nat.mod_mod, ← Nat.mul_mod]
theorem wb_and {a b : Nat} (ha : a < 2 ^ 64) (hb : b < 2 ^ 64) : lN a &&& lN b = lN (a &&& b) := by
  apply wb_inj
  rw [Int64.toBitVec_and, wb_tb, wb_tb, wb_tb]
  apply BitVec.eq_of_toNat_eq
  rw [BitVec.toNat_and, BitVec.toNat_ofNat, BitVec.toNat_ofNat, BitVec.toNat_ofNat, Nat.mod_eq_of_lt ha, Nat.mod_eq_of_lt hb, Nat.mod_eq_of_lt (Nat.and_lt_two_pow _ hb)]
theorem wb_mask {n k : Nat} (hn : n < 2 ^ 64) (hk : k < 64) : lN n &&& lN (2 ^ k - 1) = lN (n % 2 ^ k) := by
  rw [wb_and hn (by have := wb_lt2 hk; omega), Nat.and_two_pow_sub_one_eq_mod]
/-! own rows: places and values -/
def ga_pc (k : Nat) (v : Int32) : Nat := k * 4294967296 + (v.toInt + 2147483648).toNat
def ga_vl (p : Nat) : Int32 := ((lN p &&& 4294967295) - 2147483648).toInt32
theorem ga_vb (v : Int32) : 0 ≤ v.toInt + 2147483648 ∧ v.toInt + 2147483648 < 4294967296 := by
  have h1 := v.le_toInt
  have h2 := v.toInt_lt
  omega
theorem ga_vn (v : Int32) : v.toInt64 + 2147483648 = lN (v.toInt + 2147483648).toNat := by
  have h := ga_vb v
  apply Int64.toInt_inj.mp
  rw [Int64.toInt_add, Int32.toInt_toInt64, pk_lT (by omega), show (2147483648 : Int64).toInt = 2147483648 from by decide]
  rw [Int.bmod_eq_of_le (by omega) (by omega)]
  omega
theorem ga_place {k : Nat} (hk : k < 8) (v : Int32) : (((nI k).toInt64 <<< ((32 : Int32).toInt64 &&& 63)) + v.toInt64) + 2147483648 = lN (ga_pc k v) := by
  rw [nI_l (by omega), Int64.add_assoc, ga_vn]
  have e : lN k <<< ((32 : Int32).toInt64 &&& 63) = lN (k * 2 ^ 32) := wb_shl k (k := 32) (by decide)
  rw [e, lN_add]
  rfl
theorem ga_placeE {k : Nat} (hk : k < 8) : ((nI k + 1).toInt64) <<< ((32 : Int32).toInt64 &&& 63) = lN ((k + 1) * 4294967296) := by
  rw [nI_1, nI_l (by omega)]
  exact wb_shl (k + 1) (k := 32) (by decide)
theorem ga_pc0 (k : Nat) : ga_pc k (-2147483648) = k * 4294967296 := by
  unfold ga_pc
  rw [show (-2147483648 : Int32).toInt = -2147483648 from by decide]
  omega
theorem ga_pcmod (k : Nat) (v : Int32) : ga_pc k v % 4294967296 = (v.toInt + 2147483648).toNat := by
  have h := ga_vb v
  unfold ga_pc
  omega
theorem ga_pclt {k : Nat} (hk : k < 8) (v : Int32) : ga_pc k v < 34359738368 := by
  have h := ga_vb v
  unfold ga_pc
  omega
theorem ga_pclo (k : Nat) (v : Int32) : k * 4294967296 ≤ ga_pc k v ∧ ga_pc k v < (k + 1) * 4294967296 := by
  have h := ga_vb v
  unfold ga_pc
  omega
theorem ga_pcinj {k k' : Nat} {v v' : Int32} (h : ga_pc k v = ga_pc k' v') : k = k' ∧ v = v' := by
  have h1 := ga_vb v
  have h2 := ga_vb v'
  unfold ga_pc at h
  refine ⟨by omega, Int32.toInt_inj.mp (by omega)⟩
theorem ga_pcltv {k : Nat} {v v' : Int32} : ga_pc k v < ga_pc k v' ↔ v < v' := by
  have h1 := ga_vb v
  have h2 := ga_vb v'
  rw [Int32.lt_iff_toInt_lt]
  unfold ga_pc
  omega
theorem ga_vlpc {k : Nat} (hk : k < 8) (v : Int32) : ga_vl (ga_pc k v) = v := by
  have h := ga_vb v
  have hp := ga_pclt hk v
  unfold ga_vl
  have e : lN (ga_pc k v) &&& 4294967295 = lN (ga_pc k v % 2 ^ 32) := wb_mask (k := 32) (by omega) (by decide)
  rw [e, show (2 : Nat) ^ 32 = 4294967296 from rfl, ga_pcmod]
  apply Int32.toInt_inj.mp
  rw [Int64.toInt_toInt32, Int64.toInt_sub, pk_lT (by omega), show (2147483648 : Int64).toInt = 2147483648 from by decide]
  have e1 : (((v.toInt + 2147483648).toNat : Int) - 2147483648).bmod (2 ^ 64) = v.toInt := by
    rw [Int.bmod_eq_of_le (by omega) (by omega)]
    omega
  rw [e1, Int.bmod_eq_of_le (by omega) (by omega)]
/-! own rows: small -/
theorem ga_s1 {n : Nat} (h : 0 < n) : nI n - 1 = nI (n - 1) := by
  obtain ⟨m, rfl⟩ : ∃ m, n = m + 1 := ⟨n - 1, by omega⟩
  exact nI_pred m
theorem ga_m1 {n : Nat} (h : 0 < n) : nI n + (-1) = nI (n - 1) := by
  obtain ⟨m, rfl⟩ : ∃ m, n = m + 1 := ⟨n - 1, by omega⟩
  exact pk_m1 m
theorem ga_1a (a : Nat) : 1 + nI a = nI (1 + a) := nI_add 1 a
theorem ga_6m (a : Nat) : 6 * nI a = nI (6 * a) := pk_mul 6 a
theorem ga_le0 {a : Nat} (h : a < 2 ^ 31) : nI a ≤ 0 ↔ a = 0 := by
  rw [← nI_0, nI_leI h (by omega)]; omega
theorem ga_eq0 {a : Nat} (h : a < 2 ^ 31) : nI a = 0 ↔ a = 0 := by
  rw [← nI_0, nI_eq h (by omega)]
theorem ga_m1lt : (-1 : Int32) < 0 := by decide
theorem ga_im {a b : Nat} (h : nI a = nI b) (ha : a < 2 ^ 31) (hb : b < 2 ^ 31) : a = b := (nI_eq ha hb).mp h
theorem ga_cl {n : Nat} (h : n < 41) : (nI n).toNatClampNeg = n := nI_clamp (by omega)
theorem ga_in {n : Nat} (h : n < 41) : vp_in (nI n) 41 := vp_in_nI h (by omega)
theorem ga_vb0 : vp_nar .boolean 0 = 0 := by decide
theorem ga_vb1 : vp_nar .boolean 1 = 1 := by decide
end
section
/-! trees: inner m i p l r = a node with index i, place p, times m -/
abbrev gt_T : Type := Std.DTreeMap.Internal.Impl Nat (fun _ => Nat)
abbrev gt_E : Type := Nat × Nat × Nat
def gt_rp : gt_T → Nat
  | .leaf => 0
  | .inner _ i _ _ _ => i
def gt_hg : gt_T → Nat
  | .leaf => 0
  | .inner _ _ _ l r => 1 + max (gt_hg l) (gt_hg r)
def gt_il : gt_T → List gt_E
  | .leaf => []
  | .inner m i p l r => gt_il l ++ (i, p, m) :: gt_il r
def gt_av : gt_T → Prop
  | .leaf => True
  | .inner _ _ _ l r => (gt_hg l ≤ gt_hg r + 1 ∧ gt_hg r ≤ gt_hg l + 1) ∧ gt_av l ∧ gt_av r
def gt_tot : List gt_E → Nat
  | [] => 0
  | x :: L => x.2.2 + gt_tot L
def gt_sm : List gt_E → Int32
  | [] => 0
  | x :: L => nI x.2.2 * ga_vl x.2.1 + gt_sm L
theorem gt_tot_ap (L M : List gt_E) : gt_tot (L ++ M) = gt_tot L + gt_tot M := by
  induction L with
  | nil => show gt_tot M = 0 + gt_tot M; omega
  | cons x L ih => show x.2.2 + gt_tot (L ++ M) = x.2.2 + gt_tot L + gt_tot M; omega
theorem gt_sm_ap (L M : List gt_E) : gt_sm (L ++ M) = gt_sm L + gt_sm M := by
  induction L with
  | nil => show gt_sm M = 0 + gt_sm M; rw [Int32.zero_add]
  | cons x L ih => show _ + gt_sm (L ++ M) = _ + gt_sm L + gt_sm M; rw [ih, Int32.add_assoc]
theorem gt_il_i (m i p : Nat) (l r : gt_T) : gt_il (.inner m i p l r) = gt_il l ++ (i, p, m) :: gt_il r := rfl
theorem gt_hg_i (m i p : Nat) (l r : gt_T) : gt_hg (.inner m i p l r) = 1 + max (gt_hg l) (gt_hg r) := rfl
theorem gt_hg_len : ∀ t : gt_T, gt_hg t ≤ (gt_il t).length := by
  intro t
  induction t with
  | leaf => exact Nat.le_refl 0
  | inner m i p l r ihl ihr =>
    rw [gt_il_i, gt_hg_i, List.length_append, List.length_cons]
    omega
/-! an AVL tree of at most 41 nodes is at most 15 high -/
def gt_mn : Nat → Nat
  | 0 => 0
  | 1 => 1
  | h + 2 => gt_mn (h + 1) + gt_mn h + 1
theorem gt_mn_up (h : Nat) : gt_mn h ≤ gt_mn (h + 1) := by
  cases h with
  | zero => exact Nat.zero_le 1
  | succ h => show gt_mn (h + 1) ≤ gt_mn (h + 1) + gt_mn h + 1; omega
theorem gt_mn_le {a b : Nat} (h : a ≤ b) : gt_mn a ≤ gt_mn b := by
  induction b with
  | zero => rw [Nat.le_zero.mp h]; exact Nat.le_refl _
  | succ b ih =>
    by_cases e : a = b + 1
    · rw [e]; exact Nat.le_refl _
    · exact Nat.le_trans (ih (by omega)) (gt_mn_up b)
theorem gt_av_mn : ∀ t : gt_T, gt_av t → gt_mn (gt_hg t) ≤ (gt_il t).length := by
  intro t
  induction t with
  | leaf => intro _; exact Nat.le_refl 0
  | inner m i p l r ihl ihr =>
    intro h
    have hl := ihl h.2.1
    have hr := ihr h.2.2
    have hb := h.1
    rw [gt_il_i, gt_hg_i, List.length_append, List.length_cons]
    by_cases c : gt_hg l ≤ gt_hg r
    · obtain ⟨a, ha⟩ : ∃ a, gt_hg r = a := ⟨_, rfl⟩
      rw [show 1 + max (gt_hg l) (gt_hg r) = a + 1 from by omega]
      cases a with
      | zero => show 1 ≤ _; omega
      | succ a =>
        have h2 : gt_mn a ≤ gt_mn (gt_hg l) := gt_mn_le (by omega)
        rw [ha] at hr
        show gt_mn (a + 1) + gt_mn a + 1 ≤ _
        omega
    · obtain ⟨a, ha⟩ : ∃ a, gt_hg l = a + 1 := ⟨gt_hg l - 1, by omega⟩
      rw [show 1 + max (gt_hg l) (gt_hg r) = a + 2 from by omega]
      have h2 : gt_mn a ≤ gt_mn (gt_hg r) := gt_mn_le (by omega)
      rw [ha] at hl
      show gt_mn (a + 1) + gt_mn a + 1 ≤ _
      omega
theorem gt_av_15 {t : gt_T} (h : gt_av t) (hn : (gt_il t).length ≤ 41) : gt_hg t ≤ 10 := by
  have h1 := gt_av_mn t h
  by_cases c : gt_hg t ≤ 10
  · exact c
  · have h2 : gt_mn 11 ≤ gt_mn (gt_hg t) := gt_mn_le (by omega)
    have h3 : gt_mn 11 = 232 := by decide
    omega
/-! heap cells -/
abbrev gx_C : Type := Int64 × Int32 × Int32 × Int32 × Int32 × Int32 × Int32 × Int32
def gx_z : gx_C := (0, 0, 0, 0, 0, 0, 0, 0)
def gt_cl (m p : Nat) (l r : gt_T) : gx_C := (lN p, nI m, nI (gt_rp l), nI (gt_rp r), nI (1 + max (gt_hg l) (gt_hg r)),
  nI (gt_tot (gt_il l) + gt_tot (gt_il r) + m), nI ((gt_il l).length + (gt_il r).length + 1), gt_sm (gt_il l) + gt_sm (gt_il r) + nI m * ga_vl p)
def gx_ok (G : Nat → gx_C) : gt_T → Prop
  | .leaf => True
  | .inner m i p l r => (0 < i ∧ i < 41) ∧ G i = gt_cl m p l r ∧ gx_ok G l ∧ gx_ok G r
def gx_set (G : Nat → gx_C) (i : Nat) (c : gx_C) : Nat → gx_C := fun j => if j = i then c else G j
theorem gx_set_s {G : Nat → gx_C} {i : Nat} {c : gx_C} : gx_set G i c i = c := if_pos rfl
theorem gx_set_n {G : Nat → gx_C} {i j : Nat} {c : gx_C} (h : j ≠ i) : gx_set G i c j = G j := if_neg h
theorem gx_fr {G G' : Nat → gx_C} : ∀ t : gt_T, gx_ok G t → (∀ x ∈ gt_il t, G' x.1 = G x.1) → gx_ok G' t := by
  intro t
  induction t with
  | leaf => intro _ _; trivial
  | inner m i p l r ihl ihr =>
    intro h f
    refine ⟨h.1, ?_, ihl h.2.2.1 (fun x hx => f x ?_), ihr h.2.2.2 (fun x hx => f x ?_)⟩
    · rw [← h.2.1]
      exact f (i, p, m) (List.mem_append_right _ (List.mem_cons_self))
    · exact List.mem_append_left _ hx
    · exact List.mem_append_right _ (List.mem_cons_of_mem _ hx)
theorem gx_fr_set {G : Nat → gx_C} {i : Nat} {c : gx_C} {t : gt_T} (h : gx_ok G t) (f : ∀ x ∈ gt_il t, x.1 ≠ i) : gx_ok (gx_set G i c) t :=
  gx_fr t h (fun x hx => gx_set_n (f x hx))
theorem gx_rp41 {G : Nat → gx_C} {t : gt_T} (h : gx_ok G t) : gt_rp t < 41 := by
  cases t with
  | leaf => show 0 < 41; omega
  | inner m i p l r => exact h.1.2
theorem gx_ids {G : Nat → gx_C} : ∀ t : gt_T, gx_ok G t → ∀ x ∈ gt_il t, 0 < x.1 ∧ x.1 < 41 := by
  intro t
  induction t with
  | leaf => intro _ x hx; exact absurd hx List.not_mem_nil
  | inner m i p l r ihl ihr =>
    intro h x hx
    rcases List.mem_append.mp hx with a | a
    · exact ihl h.2.2.1 x a
    · rcases List.mem_cons.mp a with e | a
      · rw [e]; exact h.1
      · exact ihr h.2.2.2 x a
theorem gx_st {G : Nat → gx_C} {t : gt_T} (z : G 0 = gx_z) (h : gx_ok G t) :
    (G (gt_rp t)).2.2.2.2 = (nI (gt_hg t), nI (gt_tot (gt_il t)), nI (gt_il t).length, gt_sm (gt_il t)) := by
  cases t with
  | leaf => show (G 0).2.2.2.2 = _; rw [z]; rfl
  | inner m i p l r =>
    show (G i).2.2.2.2 = _
    rw [h.2.1, gt_il_i, gt_tot_ap, gt_sm_ap, List.length_append, List.length_cons]
    show (nI (1 + max (gt_hg l) (gt_hg r)), nI (gt_tot (gt_il l) + gt_tot (gt_il r) + m), nI ((gt_il l).length + (gt_il r).length + 1), gt_sm (gt_il l) + gt_sm (gt_il r) + nI m * ga_vl p)
      = (nI (1 + max (gt_hg l) (gt_hg r)), nI (gt_tot (gt_il l) + (m + gt_tot (gt_il r))), nI ((gt_il l).length + ((gt_il r).length + 1)), gt_sm (gt_il l) + (nI m * ga_vl p + gt_sm (gt_il r)))
    rw [show gt_tot (gt_il l) + gt_tot (gt_il r) + m = gt_tot (gt_il l) + (m + gt_tot (gt_il r)) from by omega, Nat.add_assoc, Int32.add_assoc, Int32.add_comm (gt_sm (gt_il r))]
theorem gx_h {G : Nat → gx_C} {t : gt_T} (z : G 0 = gx_z) (h : gx_ok G t) : (G (gt_rp t)).2.2.2.2.1 = nI (gt_hg t) := congrArg (fun x => x.1) (gx_st z h)
theorem gx_r {G : Nat → gx_C} {t : gt_T} (z : G 0 = gx_z) (h : gx_ok G t) : (G (gt_rp t)).2.2.2.2.2.1 = nI (gt_tot (gt_il t)) := congrArg (fun x => x.2.1) (gx_st z h)
theorem gx_k {G : Nat → gx_C} {t : gt_T} (z : G 0 = gx_z) (h : gx_ok G t) : (G (gt_rp t)).2.2.2.2.2.2.1 = nI (gt_il t).length := congrArg (fun x => x.2.2.1) (gx_st z h)
theorem gx_m {G : Nat → gx_C} {t : gt_T} (z : G 0 = gx_z) (h : gx_ok G t) : (G (gt_rp t)).2.2.2.2.2.2.2 = gt_sm (gt_il t) := congrArg (fun x => x.2.2.2) (gx_st z h)
/-- a node with the right links; its counts may be old -/
def gx_lk (c : gx_C) (m p a b : Nat) : Prop := c.1 = lN p ∧ c.2.1 = nI m ∧ c.2.2.1 = nI a ∧ c.2.2.2.1 = nI b
theorem gx_lk_ok {G : Nat → gx_C} {m i p : Nat} {l r : gt_T} (h : G i = gt_cl m p l r) : gx_lk (G i) m p (gt_rp l) (gt_rp r) := by
  rw [h]; exact ⟨rfl, rfl, rfl, rfl⟩
end
section
/-! the component's state: W = (floor, ceiling, shownBefore, shownAfter, entries, before, after, entrySort, entryKey, entryFields) -/
abbrev gx_W : Type := Int32 × Int32 × Int32 × Int32 × Int32 × (Nat → Int32) × (Nat → Int32) × (Nat → Int32) × (Nat → Int32) × (Nat → Int32)
abbrev gx_s (W : gx_W) (rt fr dp : Int32) (G : Nat → gx_C) (pa : Nat → Int32) : SX := (rt, fr, dp, W.1, W.2.1, W.2.2.1, W.2.2.2.1, W.2.2.2.2.1, (fun qq => (G qq).1), (fun qq => (G qq).2.1), (fun qq => (G qq).2.2.1), (fun qq => (G qq).2.2.2.1), (fun qq => (G qq).2.2.2.2.1), (fun qq => (G qq).2.2.2.2.2.1), (fun qq => (G qq).2.2.2.2.2.2.1), (fun qq => (G qq).2.2.2.2.2.2.2), pa, W.2.2.2.2.2.1, W.2.2.2.2.2.2.1, W.2.2.2.2.2.2.2.1, W.2.2.2.2.2.2.2.2.1, W.2.2.2.2.2.2.2.2.2)
section gxh
variable {W : gx_W} {rt fr dp : Int32} {G : Nat → gx_C} {pa : Nat → Int32}
theorem gx_k1 {α : Type} (f : gx_C → α) {i : Nat} {c : gx_C} (h : f c = f (G i)) : (fun j => f (gx_set G i c j)) = fun j => f (G j) := by
  funext j
  by_cases e : j = i
  · rw [e, gx_set_s, h]
  · rw [gx_set_n e]
theorem gx_w1 (f : gx_C → Int32) {i : Nat} {c : gx_C} {x : Int32} (h : f c = x) : (fun j => f (gx_set G i c j)) = upd (fun j => f (G j)) i x := by
  funext j
  by_cases e : j = i
  · rw [e, gx_set_s, pk_us, h]
  · rw [gx_set_n e, pk_un e]
theorem gx_wL (f : gx_C → Int64) {i : Nat} {c : gx_C} {x : Int64} (h : f c = x) : (fun j => f (gx_set G i c j)) = vp_updL (fun j => f (G j)) i x := by
  funext j
  by_cases e : j = i
  · rw [e, gx_set_s, pk_uLs, h]
  · rw [gx_set_n e, pk_uLn e]
theorem gx_to (post : SX → Prop) (K : post (gx_s W rt fr dp G pa)) {p1 : Nat → Int64} {p2 p3 p4 p5 p6 p7 p8 : Nat → Int32}
    (e1 : (fun j => (G j).1) = p1) (e2 : (fun j => (G j).2.1) = p2) (e3 : (fun j => (G j).2.2.1) = p3) (e4 : (fun j => (G j).2.2.2.1) = p4)
    (e5 : (fun j => (G j).2.2.2.2.1) = p5) (e6 : (fun j => (G j).2.2.2.2.2.1) = p6) (e7 : (fun j => (G j).2.2.2.2.2.2.1) = p7) (e8 : (fun j => (G j).2.2.2.2.2.2.2) = p8) :
    post (rt, fr, dp, W.1, W.2.1, W.2.2.1, W.2.2.2.1, W.2.2.2.2.1, p1, p2, p3, p4, p5, p6, p7, p8, pa, W.2.2.2.2.2.1, W.2.2.2.2.2.2.1, W.2.2.2.2.2.2.2.1, W.2.2.2.2.2.2.2.2.1, W.2.2.2.2.2.2.2.2.2) := by
  subst e1 e2 e3 e4 e5 e6 e7 e8
  exact K
/-! storing into one field -/
def gx_sl (c : gx_C) (x : Int32) : gx_C := (c.1, c.2.1, x, c.2.2.2)
def gx_sr (c : gx_C) (x : Int32) : gx_C := (c.1, c.2.1, c.2.2.1, x, c.2.2.2.2)
def gx_sp (c : gx_C) (x : Int64) : gx_C := (x, c.2)
def gx_sm (c : gx_C) (x : Int32) : gx_C := (c.1, x, c.2.2)
theorem gx_toL {i : Nat} {x : Int32} (post : SX → Prop) (K : post (gx_s W rt fr dp (gx_set G i (gx_sl (G i) x)) pa)) :
    post (rt, fr, dp, W.1, W.2.1, W.2.2.1, W.2.2.2.1, W.2.2.2.2.1, (fun j => (G j).1), (fun j => (G j).2.1), upd (fun j => (G j).2.2.1) i x, (fun j => (G j).2.2.2.1), (fun j => (G j).2.2.2.2.1), (fun j => (G j).2.2.2.2.2.1), (fun j => (G j).2.2.2.2.2.2.1), (fun j => (G j).2.2.2.2.2.2.2), pa, W.2.2.2.2.2.1, W.2.2.2.2.2.2.1, W.2.2.2.2.2.2.2.1, W.2.2.2.2.2.2.2.2.1, W.2.2.2.2.2.2.2.2.2) :=
  gx_to post K (gx_k1 (fun c => c.1) rfl) (gx_k1 (fun c => c.2.1) rfl) (gx_w1 (fun c => c.2.2.1) rfl) (gx_k1 (fun c => c.2.2.2.1) rfl) (gx_k1 (fun c => c.2.2.2.2.1) rfl) (gx_k1 (fun c => c.2.2.2.2.2.1) rfl) (gx_k1 (fun c => c.2.2.2.2.2.2.1) rfl) (gx_k1 (fun c => c.2.2.2.2.2.2.2) rfl)
theorem gx_toR {i : Nat} {x : Int32} (post : SX → Prop) (K : post (gx_s W rt fr dp (gx_set G i (gx_sr (G i) x)) pa)) :
    post (rt, fr, dp, W.1, W.2.1, W.2.2.1, W.2.2.2.1, W.2.2.2.2.1, (fun j => (G j).1), (fun j => (G j).2.1), (fun j => (G j).2.2.1), upd (fun j => (G j).2.2.2.1) i x, (fun j => (G j).2.2.2.2.1), (fun j => (G j).2.2.2.2.2.1), (fun j => (G j).2.2.2.2.2.2.1), (fun j => (G j).2.2.2.2.2.2.2), pa, W.2.2.2.2.2.1, W.2.2.2.2.2.2.1, W.2.2.2.2.2.2.2.1, W.2.2.2.2.2.2.2.2.1, W.2.2.2.2.2.2.2.2.2) :=
  gx_to post K (gx_k1 (fun c => c.1) rfl) (gx_k1 (fun c => c.2.1) rfl) (gx_k1 (fun c => c.2.2.1) rfl) (gx_w1 (fun c => c.2.2.2.1) rfl) (gx_k1 (fun c => c.2.2.2.2.1) rfl) (gx_k1 (fun c => c.2.2.2.2.2.1) rfl) (gx_k1 (fun c => c.2.2.2.2.2.2.1) rfl) (gx_k1 (fun c => c.2.2.2.2.2.2.2) rfl)
theorem gx_toM {i : Nat} {x : Int32} (post : SX → Prop) (K : post (gx_s W rt fr dp (gx_set G i (gx_sm (G i) x)) pa)) :
    post (rt, fr, dp, W.1, W.2.1, W.2.2.1, W.2.2.2.1, W.2.2.2.2.1, (fun j => (G j).1), upd (fun j => (G j).2.1) i x, (fun j => (G j).2.2.1), (fun j => (G j).2.2.2.1), (fun j => (G j).2.2.2.2.1), (fun j => (G j).2.2.2.2.2.1), (fun j => (G j).2.2.2.2.2.2.1), (fun j => (G j).2.2.2.2.2.2.2), pa, W.2.2.2.2.2.1, W.2.2.2.2.2.2.1, W.2.2.2.2.2.2.2.1, W.2.2.2.2.2.2.2.2.1, W.2.2.2.2.2.2.2.2.2) :=
  gx_to post K (gx_k1 (fun c => c.1) rfl) (gx_w1 (fun c => c.2.1) rfl) (gx_k1 (fun c => c.2.2.1) rfl) (gx_k1 (fun c => c.2.2.2.1) rfl) (gx_k1 (fun c => c.2.2.2.2.1) rfl) (gx_k1 (fun c => c.2.2.2.2.2.1) rfl) (gx_k1 (fun c => c.2.2.2.2.2.2.1) rfl) (gx_k1 (fun c => c.2.2.2.2.2.2.2) rfl)
theorem gx_toP {i : Nat} {x : Int64} (post : SX → Prop) (K : post (gx_s W rt fr dp (gx_set G i (gx_sp (G i) x)) pa)) :
    post (rt, fr, dp, W.1, W.2.1, W.2.2.1, W.2.2.2.1, W.2.2.2.2.1, vp_updL (fun j => (G j).1) i x, (fun j => (G j).2.1), (fun j => (G j).2.2.1), (fun j => (G j).2.2.2.1), (fun j => (G j).2.2.2.2.1), (fun j => (G j).2.2.2.2.2.1), (fun j => (G j).2.2.2.2.2.2.1), (fun j => (G j).2.2.2.2.2.2.2), pa, W.2.2.2.2.2.1, W.2.2.2.2.2.2.1, W.2.2.2.2.2.2.2.1, W.2.2.2.2.2.2.2.2.1, W.2.2.2.2.2.2.2.2.2) :=
  gx_to post K (gx_wL (fun c => c.1) rfl) (gx_k1 (fun c => c.2.1) rfl) (gx_k1 (fun c => c.2.2.1) rfl) (gx_k1 (fun c => c.2.2.2.1) rfl) (gx_k1 (fun c => c.2.2.2.2.1) rfl) (gx_k1 (fun c => c.2.2.2.2.2.1) rfl) (gx_k1 (fun c => c.2.2.2.2.2.2.1) rfl) (gx_k1 (fun c => c.2.2.2.2.2.2.2) rfl)
/-! update, attach, step -/
theorem gx_update50 {post : SX → Prop} {i m p : Nat} {l r : gt_T} {H : Int32} (z : G 0 = gx_z) (hi : i < 41) (hk : gx_lk (G i) m p (gt_rp l) (gt_rp r)) (hl : gx_ok G l) (hr : gx_ok G r)
    (hH : 1 + H = nI (1 + max (gt_hg l) (gt_hg r))) (K : post (gx_s W rt fr dp (gx_set G i (gt_cl m p l r)) pa)) :
    wX_update_50 post (nI i) (nI (gt_rp l)) (nI (gt_rp r)) H 1 (nI i) rt fr dp W.1 W.2.1 W.2.2.1 W.2.2.2.1 W.2.2.2.2.1 (fun qq => (G qq).1) (fun qq => (G qq).2.1) (fun qq => (G qq).2.2.1) (fun qq => (G qq).2.2.2.1) (fun qq => (G qq).2.2.2.2.1) (fun qq => (G qq).2.2.2.2.2.1) (fun qq => (G qq).2.2.2.2.2.2.1) (fun qq => (G qq).2.2.2.2.2.2.2) pa W.2.2.2.2.2.1 W.2.2.2.2.2.2.1 W.2.2.2.2.2.2.2.1 W.2.2.2.2.2.2.2.2.1 W.2.2.2.2.2.2.2.2.2 := by
  have ec := ga_cl hi
  have el := ga_cl (gx_rp41 hl)
  have er := ga_cl (gx_rp41 hr)
  have v := ga_in hi
  have vl := ga_in (gx_rp41 hl)
  have vr := ga_in (gx_rp41 hr)
  unfold wX_update_50
  refine ⟨v, nm_e ⟨vl, vr, v, v, nm_e ⟨vl, vr, v, nm_e ⟨vl, vr, v, v, And.intro v (nm_e ?_)⟩⟩⟩⟩
  refine gx_to post K (gx_k1 (fun c => c.1) hk.1.symm) (gx_k1 (fun c => c.2.1) hk.2.1.symm) (gx_k1 (fun c => c.2.2.1) hk.2.2.1.symm) (gx_k1 (fun c => c.2.2.2.1) hk.2.2.2.symm) ?_ ?_ ?_ ?_
  · rw [ec, hH]; exact gx_w1 (fun c => c.2.2.2.2.1) rfl
  · dsimp only
    rw [ec, el, er, gx_r z hl, gx_r z hr, hk.2.1, nI_add, nI_add]
    exact gx_w1 (fun c => c.2.2.2.2.2.1) rfl
  · dsimp only
    rw [ec, el, er, gx_k z hl, gx_k z hr, nI_add, nI_1]
    exact gx_w1 (fun c => c.2.2.2.2.2.2.1) rfl
  · dsimp only
    rw [ec, el, er, gx_m z hl, gx_m z hr, hk.1, hk.2.1]
    exact gx_w1 (fun c => c.2.2.2.2.2.2.2) rfl
theorem gx_update {post : SX → Prop} {i m p : Nat} {l r : gt_T} (z : G 0 = gx_z) (hi : i < 41) (hk : gx_lk (G i) m p (gt_rp l) (gt_rp r)) (hl : gx_ok G l) (hr : gx_ok G r)
    (bl : gt_hg l < 100) (br : gt_hg r < 100) (K : post (gx_s W rt fr dp (gx_set G i (gt_cl m p l r)) pa)) : wpX_update post (gx_s W rt fr dp G pa) (nI i) := by
  have ec := ga_cl hi
  have el := ga_cl (gx_rp41 hl)
  have er := ga_cl (gx_rp41 hr)
  have v := ga_in hi
  have vl := ga_in (gx_rp41 hl)
  have vr := ga_in (gx_rp41 hr)
  unfold wpX_update
  dsimp only
  rw [ec]
  refine ⟨v, nm_r hk.2.2.1 ⟨v, nm_r hk.2.2.2 ⟨vl, vr, ?_⟩⟩⟩
  rw [el, er, gx_h z hl, gx_h z hr]
  refine pk_le (gt_hg l) (gt_hg r) (fun h => ⟨vr, ?_⟩) (fun h => ⟨vl, ?_⟩) rfl rfl (by omega) (by omega)
  · exact gx_update50 z hi hk hl hr (by rw [ga_1a]; exact congrArg nI (by omega)) K
  · exact gx_update50 z hi hk hl hr (by rw [ga_1a]; exact congrArg nI (by omega)) K
theorem gx_attL {post : SX → Prop} {a : Nat} {x : Int32} (ha : a < 41) (K : post (gx_s W rt fr dp (gx_set G a (gx_sl (G a) x)) pa)) : wpX_attach post (gx_s W rt fr dp G pa) (nI a) 1 x := by
  unfold wpX_attach
  dsimp only
  rw [ga_cl ha]
  exact br_f (by decide) ⟨ga_in ha, nm_e (gx_toL post K)⟩
theorem gx_attR {post : SX → Prop} {a : Nat} {x : Int32} (ha : a < 41) (K : post (gx_s W rt fr dp (gx_set G a (gx_sr (G a) x)) pa)) : wpX_attach post (gx_s W rt fr dp G pa) (nI a) 0 x := by
  unfold wpX_attach
  dsimp only
  rw [ga_cl ha]
  exact br_t rfl ⟨ga_in ha, nm_e (gx_toR post K)⟩
theorem gx_step {post : SX → Prop} {d : Nat} {x : Int32} (hd : d < 16) (K : post (gx_s W rt fr (nI (d + 1)) G (upd pa d x))) : wpX_step post (gx_s W rt fr (nI d) G pa) x := by
  unfold wpX_step
  dsimp only
  rw [nI_clamp (by omega), nI_1]
  exact ⟨vp_in_nI hd (by omega), nm_e (nm_e K)⟩
end gxh
end
section
/-! turning and balancing -/
def gt_ni (i : Nat) (t : gt_T) : Prop := ∀ x ∈ gt_il t, x.1 ≠ i
def gt_nd (L : List gt_E) : Prop := L.Pairwise (fun x y => x.1 ≠ y.1)
theorem gt_ni_i {k m i p : Nat} {l r : gt_T} (h : gt_ni k (.inner m i p l r)) : i ≠ k ∧ gt_ni k l ∧ gt_ni k r :=
  ⟨h (i, p, m) (List.mem_append_right _ List.mem_cons_self), fun x hx => h x (List.mem_append_left _ hx), fun x hx => h x (List.mem_append_right _ (List.mem_cons_of_mem _ hx))⟩
theorem gt_nd_i {A B : List gt_E} {e : gt_E} (h : gt_nd (A ++ e :: B)) : gt_nd A ∧ gt_nd B ∧ (∀ x ∈ A, x.1 ≠ e.1) ∧ (∀ x ∈ B, x.1 ≠ e.1) ∧ (∀ x ∈ A, ∀ y ∈ B, x.1 ≠ y.1) := by
  obtain ⟨h1, h2, h3⟩ := List.pairwise_append.mp h
  obtain ⟨h4, h5⟩ := List.pairwise_cons.mp h2
  exact ⟨h1, h5, fun x hx => h3 x hx e List.mem_cons_self, fun x hx => (h4 x hx).symm, fun x hx y hy => h3 x hx y (List.mem_cons_of_mem _ hy)⟩
theorem gt_in_r {m i p : Nat} {l r : gt_T} : (i, p, m) ∈ gt_il (.inner m i p l r) := List.mem_append_right _ List.mem_cons_self
theorem gx_fr2 {G G' : Nat → gx_C} {i j : Nat} {t : gt_T} (f : ∀ x, x ≠ i → x ≠ j → G' x = G x) (h : gx_ok G t) (h1 : gt_ni i t) (h2 : gt_ni j t) : gx_ok G' t :=
  gx_fr t h (fun x hx => f x.1 (h1 x hx) (h2 x hx))
section gxt
variable {W : gx_W} {rt fr dp : Int32} {G : Nat → gx_C} {pa : Nat → Int32}
theorem gx_turnL {post : Int32 → SX → Prop} {i j m p m' p' : Nat} {l a b : gt_T} (z : G 0 = gx_z) (hi : 0 < i ∧ i < 41) (hj : 0 < j ∧ j < 41) (ij : i ≠ j)
    (hk : gx_lk (G i) m p (gt_rp l) j) (hG : gx_lk (G j) m' p' (gt_rp a) (gt_rp b)) (hl : gx_ok G l) (ha : gx_ok G a) (hb : gx_ok G b)
    (il : gt_ni i l) (ia : gt_ni i a) (ib : gt_ni i b) (jl : gt_ni j l) (ja : gt_ni j a) (jb : gt_ni j b) (bl : gt_hg l < 90) (ba : gt_hg a < 90) (bb : gt_hg b < 90)
    (K : ∀ G', (∀ x, x ≠ i → x ≠ j → G' x = G x) → gx_ok G' (.inner m' j p' (.inner m i p l a) b) → post (nI j) (gx_s W rt fr dp G' pa)) :
    wpX_turnLeft post (gx_s W rt fr dp G pa) (nI i) := by
  unfold wpX_turnLeft
  dsimp only
  rw [ga_cl hi.2]
  refine ⟨ga_in hi.2, nm_r hk.2.2.2 ⟨ga_in hj.2, ga_in hi.2, ?_⟩⟩
  rw [ga_cl hj.2, hG.2.2.1]
  refine nm_e ⟨ga_in hj.2, nm_e ?_⟩
  have q : (gx_set G i (gx_sr (G i) (nI (gt_rp a)))) j = G j := gx_set_n ij.symm
  obtain ⟨G2, e2⟩ : ∃ G2, G2 = gx_set (gx_set G i (gx_sr (G i) (nI (gt_rp a)))) j (gx_sl (G j) (nI i)) := ⟨_, rfl⟩
  have f2 : ∀ x, x ≠ i → x ≠ j → G2 x = G x := fun x h1 h2 => by rw [e2, gx_set_n h2, gx_set_n h1]
  have i2 : G2 i = gx_sr (G i) (nI (gt_rp a)) := by rw [e2, gx_set_n ij, gx_set_s]
  have j2 : G2 j = gx_sl (G j) (nI i) := by rw [e2, gx_set_s]
  have z2 : G2 0 = gx_z := by rw [f2 0 (by omega) (by omega), z]
  refine gx_to (G := G2) (fun u => wpX_update _ u (nI i)) ?_
    (by rw [e2]; exact (gx_k1 (c := gx_sl (G j) (nI i)) (fun c => c.1) (by rw [q]; rfl)).trans (gx_k1 (fun c => c.1) rfl))
    (by rw [e2]; exact (gx_k1 (c := gx_sl (G j) (nI i)) (fun c => c.2.1) (by rw [q]; rfl)).trans (gx_k1 (fun c => c.2.1) rfl))
    (by rw [e2]; exact (gx_w1 (fun c => c.2.2.1) rfl).trans (congrArg (fun f => upd f j (nI i)) (gx_k1 (fun c => c.2.2.1) rfl)))
    (by rw [e2]; exact (gx_k1 (c := gx_sl (G j) (nI i)) (fun c => c.2.2.2.1) (by rw [q]; rfl)).trans (gx_w1 (fun c => c.2.2.2.1) rfl))
    (by rw [e2]; exact (gx_k1 (c := gx_sl (G j) (nI i)) (fun c => c.2.2.2.2.1) (by rw [q]; rfl)).trans (gx_k1 (fun c => c.2.2.2.2.1) rfl))
    (by rw [e2]; exact (gx_k1 (c := gx_sl (G j) (nI i)) (fun c => c.2.2.2.2.2.1) (by rw [q]; rfl)).trans (gx_k1 (fun c => c.2.2.2.2.2.1) rfl))
    (by rw [e2]; exact (gx_k1 (c := gx_sl (G j) (nI i)) (fun c => c.2.2.2.2.2.2.1) (by rw [q]; rfl)).trans (gx_k1 (fun c => c.2.2.2.2.2.2.1) rfl))
    (by rw [e2]; exact (gx_k1 (c := gx_sl (G j) (nI i)) (fun c => c.2.2.2.2.2.2.2) (by rw [q]; rfl)).trans (gx_k1 (fun c => c.2.2.2.2.2.2.2) rfl))
  refine gx_update (m := m) (p := p) (l := l) (r := a) z2 hi.2 (by rw [i2]; exact ⟨hk.1, hk.2.1, hk.2.2.1, rfl⟩) (gx_fr2 f2 hl il jl) (gx_fr2 f2 ha ia ja) (by omega) (by omega) ?_
  dsimp only
  have f3 : ∀ x, x ≠ i → x ≠ j → gx_set G2 i (gt_cl m p l a) x = G x := fun x h1 h2 => by rw [gx_set_n h1, f2 x h1 h2]
  refine gx_update (W := W) (rt := rt) (fr := fr) (dp := dp) (pa := pa) (G := gx_set G2 i (gt_cl m p l a)) (m := m') (p := p') (l := .inner m i p l a) (r := b) (by rw [f3 0 (by omega) (by omega), z]) hj.2 (by rw [gx_set_n ij.symm, j2]; exact ⟨hG.1, hG.2.1, rfl, hG.2.2.2⟩)
    ⟨hi, gx_set_s, gx_fr2 f3 hl il jl, gx_fr2 f3 ha ia ja⟩ (gx_fr2 f3 hb ib jb) (by rw [gt_hg_i]; omega) (by omega) ?_
  dsimp only
  have f4 : ∀ x, x ≠ i → x ≠ j → gx_set (gx_set G2 i (gt_cl m p l a)) j (gt_cl m' p' (.inner m i p l a) b) x = G x := fun x h1 h2 => by rw [gx_set_n h2, f3 x h1 h2]
  exact K _ f4 ⟨hj, gx_set_s, ⟨hi, by rw [gx_set_n ij, gx_set_s], gx_fr2 f4 hl il jl, gx_fr2 f4 ha ia ja⟩, gx_fr2 f4 hb ib jb⟩
theorem gx_turnR {post : Int32 → SX → Prop} {i j m p m' p' : Nat} {a b r : gt_T} (z : G 0 = gx_z) (hi : 0 < i ∧ i < 41) (hj : 0 < j ∧ j < 41) (ij : i ≠ j)
    (hk : gx_lk (G i) m p j (gt_rp r)) (hG : gx_lk (G j) m' p' (gt_rp a) (gt_rp b)) (ha : gx_ok G a) (hb : gx_ok G b) (hr : gx_ok G r)
    (ia : gt_ni i a) (ib : gt_ni i b) (ir : gt_ni i r) (ja : gt_ni j a) (jb : gt_ni j b) (jr : gt_ni j r) (ba : gt_hg a < 90) (bb : gt_hg b < 90) (br : gt_hg r < 90)
    (K : ∀ G', (∀ x, x ≠ i → x ≠ j → G' x = G x) → gx_ok G' (.inner m' j p' a (.inner m i p b r)) → post (nI j) (gx_s W rt fr dp G' pa)) :
    wpX_turnRight post (gx_s W rt fr dp G pa) (nI i) := by
  unfold wpX_turnRight
  dsimp only
  rw [ga_cl hi.2]
  refine ⟨ga_in hi.2, nm_r hk.2.2.1 ⟨ga_in hj.2, ga_in hi.2, ?_⟩⟩
  rw [ga_cl hj.2, hG.2.2.2]
  refine nm_e ⟨ga_in hj.2, nm_e ?_⟩
  have q : (gx_set G i (gx_sl (G i) (nI (gt_rp b)))) j = G j := gx_set_n ij.symm
  obtain ⟨G2, e2⟩ : ∃ G2, G2 = gx_set (gx_set G i (gx_sl (G i) (nI (gt_rp b)))) j (gx_sr (G j) (nI i)) := ⟨_, rfl⟩
  have f2 : ∀ x, x ≠ i → x ≠ j → G2 x = G x := fun x h1 h2 => by rw [e2, gx_set_n h2, gx_set_n h1]
  have i2 : G2 i = gx_sl (G i) (nI (gt_rp b)) := by rw [e2, gx_set_n ij, gx_set_s]
  have j2 : G2 j = gx_sr (G j) (nI i) := by rw [e2, gx_set_s]
  have z2 : G2 0 = gx_z := by rw [f2 0 (by omega) (by omega), z]
  refine gx_to (G := G2) (fun u => wpX_update _ u (nI i)) ?_
    (by rw [e2]; exact (gx_k1 (c := gx_sr (G j) (nI i)) (fun c => c.1) (by rw [q]; rfl)).trans (gx_k1 (fun c => c.1) rfl))
    (by rw [e2]; exact (gx_k1 (c := gx_sr (G j) (nI i)) (fun c => c.2.1) (by rw [q]; rfl)).trans (gx_k1 (fun c => c.2.1) rfl))
    (by rw [e2]; exact (gx_k1 (c := gx_sr (G j) (nI i)) (fun c => c.2.2.1) (by rw [q]; rfl)).trans (gx_w1 (fun c => c.2.2.1) rfl))
    (by rw [e2]; exact (gx_w1 (fun c => c.2.2.2.1) rfl).trans (congrArg (fun f => upd f j (nI i)) (gx_k1 (fun c => c.2.2.2.1) rfl)))
    (by rw [e2]; exact (gx_k1 (c := gx_sr (G j) (nI i)) (fun c => c.2.2.2.2.1) (by rw [q]; rfl)).trans (gx_k1 (fun c => c.2.2.2.2.1) rfl))
    (by rw [e2]; exact (gx_k1 (c := gx_sr (G j) (nI i)) (fun c => c.2.2.2.2.2.1) (by rw [q]; rfl)).trans (gx_k1 (fun c => c.2.2.2.2.2.1) rfl))
    (by rw [e2]; exact (gx_k1 (c := gx_sr (G j) (nI i)) (fun c => c.2.2.2.2.2.2.1) (by rw [q]; rfl)).trans (gx_k1 (fun c => c.2.2.2.2.2.2.1) rfl))
    (by rw [e2]; exact (gx_k1 (c := gx_sr (G j) (nI i)) (fun c => c.2.2.2.2.2.2.2) (by rw [q]; rfl)).trans (gx_k1 (fun c => c.2.2.2.2.2.2.2) rfl))
  refine gx_update (m := m) (p := p) (l := b) (r := r) z2 hi.2 (by rw [i2]; exact ⟨hk.1, hk.2.1, rfl, hk.2.2.2⟩) (gx_fr2 f2 hb ib jb) (gx_fr2 f2 hr ir jr) (by omega) (by omega) ?_
  dsimp only
  have f3 : ∀ x, x ≠ i → x ≠ j → gx_set G2 i (gt_cl m p b r) x = G x := fun x h1 h2 => by rw [gx_set_n h1, f2 x h1 h2]
  refine gx_update (W := W) (rt := rt) (fr := fr) (dp := dp) (pa := pa) (G := gx_set G2 i (gt_cl m p b r)) (m := m') (p := p') (l := a) (r := .inner m i p b r) (by rw [f3 0 (by omega) (by omega), z]) hj.2 (by rw [gx_set_n ij.symm, j2]; exact ⟨hG.1, hG.2.1, hG.2.2.1, rfl⟩)
    (gx_fr2 f3 ha ia ja) ⟨hi, gx_set_s, gx_fr2 f3 hb ib jb, gx_fr2 f3 hr ir jr⟩ (by omega) (by rw [gt_hg_i]; omega) ?_
  dsimp only
  have f4 : ∀ x, x ≠ i → x ≠ j → gx_set (gx_set G2 i (gt_cl m p b r)) j (gt_cl m' p' a (.inner m i p b r)) x = G x := fun x h1 h2 => by rw [gx_set_n h2, f3 x h1 h2]
  exact K _ f4 ⟨hj, gx_set_s, gx_fr2 f4 ha ia ja, ⟨hi, by rw [gx_set_n ij, gx_set_s], gx_fr2 f4 hb ib jb, gx_fr2 f4 hr ir jr⟩⟩
end gxt
end
section
section gxb
variable {W : gx_W} {rt fr dp : Int32} {G : Nat → gx_C} {pa : Nat → Int32}
/-- what a balanced tree's height is, by the heights of the two parts -/
def gt_hc (a b h : Nat) : Prop := (a ≤ b + 1 ∧ b ≤ a + 1 ∧ h = 1 + max a b) ∨ ((a = b + 2 ∨ b = a + 2) ∧ max a b ≤ h ∧ h ≤ 1 + max a b)
/-- the continuation of balance -/
def gx_bk (post : Int32 → SX → Prop) (W : gx_W) (rt fr dp : Int32) (G : Nat → gx_C) (pa : Nat → Int32) (m i p : Nat) (l r : gt_T) : Prop :=
  ∀ (t' : gt_T) (G' : Nat → gx_C), gx_ok G' t' → gt_av t' → gt_il t' = gt_il l ++ (i, p, m) :: gt_il r → gt_hc (gt_hg l) (gt_hg r) (gt_hg t') →
    (∀ x, x ≠ i → (∀ e ∈ gt_il l, e.1 ≠ x) → (∀ e ∈ gt_il r, e.1 ≠ x) → G' x = G x) → post (nI (gt_rp t')) (gx_s W rt fr dp G' pa)
theorem gx_balR {post : Int32 → SX → Prop} {m i p mr j pr : Nat} {l a b : gt_T} (z : G 0 = gx_z) (hi : 0 < i ∧ i < 41) (hk : gx_lk (G i) m p (gt_rp l) j) (hl : gx_ok G l) (hr : gx_ok G (.inner mr j pr a b))
    (al : gt_av l) (ar : gt_av (.inner mr j pr a b)) (bl : gt_hg l < 80) (hb : gt_hg (.inner mr j pr a b) = gt_hg l + 2)
    (nd : gt_nd (gt_il l ++ (i, p, m) :: gt_il (.inner mr j pr a b))) (c3 : gt_hg a ≤ gt_hg b) (K : gx_bk post W rt fr dp G pa m i p l (.inner mr j pr a b)) :
    wX_balance_131 post (nI i) rt fr dp W.1 W.2.1 W.2.2.1 W.2.2.2.1 W.2.2.2.2.1 (fun qq => (G qq).1) (fun qq => (G qq).2.1) (fun qq => (G qq).2.2.1) (fun qq => (G qq).2.2.2.1) (fun qq => (G qq).2.2.2.2.1) (fun qq => (G qq).2.2.2.2.2.1) (fun qq => (G qq).2.2.2.2.2.2.1) (fun qq => (G qq).2.2.2.2.2.2.2) pa W.2.2.2.2.2.1 W.2.2.2.2.2.2.1 W.2.2.2.2.2.2.2.1 W.2.2.2.2.2.2.2.2.1 W.2.2.2.2.2.2.2.2.2 := by
  obtain ⟨nl, nr, li, ri, lr⟩ := gt_nd_i nd
  obtain ⟨na, nb, aj, bj, ab⟩ := gt_nd_i nr
  obtain ⟨ji, ai, bi⟩ := gt_ni_i (k := i) (fun x hx => ri x hx)
  rw [gt_hg_i] at hb
  unfold wX_balance_131
  refine gx_turnL (W := W) (rt := rt) (fr := fr) (dp := dp) (pa := pa) (G := G) (l := l) (a := a) (b := b) z hi hr.1 ji.symm hk (gx_lk_ok hr.2.1) hl hr.2.2.1 hr.2.2.2 li ai bi (fun x hx => lr x hx _ gt_in_r) aj bj (by omega) (by omega) (by omega) ?_
  intro G' f' ok'
  dsimp only
  refine K _ G' ok' ⟨⟨?_, ?_⟩, ⟨⟨?_, ?_⟩, al, ar.2.1⟩, ar.2.2⟩ ?_ ?_ ?_
  · rw [gt_hg_i]; have := ar.1; omega
  · rw [gt_hg_i]; have := ar.1; omega
  · have := ar.1; omega
  · have := ar.1; omega
  · simp only [gt_il_i, List.append_assoc, List.cons_append]
  · refine Or.inr ⟨Or.inr (by rw [gt_hg_i]; omega), ?_, ?_⟩
    · rw [gt_hg_i, gt_hg_i, gt_hg_i]; have := ar.1; omega
    · rw [gt_hg_i, gt_hg_i, gt_hg_i]; have := ar.1; omega
  · intro x h1 h2 h3
    exact f' x h1 (h3 _ gt_in_r).symm
theorem gx_balL {post : Int32 → SX → Prop} {m i p mr j pr : Nat} {a b r : gt_T} (z : G 0 = gx_z) (hi : 0 < i ∧ i < 41) (hk : gx_lk (G i) m p j (gt_rp r)) (hl : gx_ok G (.inner mr j pr a b)) (hr : gx_ok G r)
    (al : gt_av (.inner mr j pr a b)) (ar : gt_av r) (br : gt_hg r < 80) (hb : gt_hg (.inner mr j pr a b) = gt_hg r + 2)
    (nd : gt_nd (gt_il (.inner mr j pr a b) ++ (i, p, m) :: gt_il r)) (c3 : gt_hg b ≤ gt_hg a) (K : gx_bk post W rt fr dp G pa m i p (.inner mr j pr a b) r) :
    wX_balance_72 post (nI i) rt fr dp W.1 W.2.1 W.2.2.1 W.2.2.2.1 W.2.2.2.2.1 (fun qq => (G qq).1) (fun qq => (G qq).2.1) (fun qq => (G qq).2.2.1) (fun qq => (G qq).2.2.2.1) (fun qq => (G qq).2.2.2.2.1) (fun qq => (G qq).2.2.2.2.2.1) (fun qq => (G qq).2.2.2.2.2.2.1) (fun qq => (G qq).2.2.2.2.2.2.2) pa W.2.2.2.2.2.1 W.2.2.2.2.2.2.1 W.2.2.2.2.2.2.2.1 W.2.2.2.2.2.2.2.2.1 W.2.2.2.2.2.2.2.2.2 := by
  obtain ⟨nl, nr, li, ri, lr⟩ := gt_nd_i nd
  obtain ⟨na, nb, aj, bj, ab⟩ := gt_nd_i nl
  obtain ⟨ji, ai, bi⟩ := gt_ni_i (k := i) (fun x hx => li x hx)
  rw [gt_hg_i] at hb
  unfold wX_balance_72
  refine gx_turnR (W := W) (rt := rt) (fr := fr) (dp := dp) (pa := pa) (G := G) (a := a) (b := b) (r := r) z hi hl.1 ji.symm hk (gx_lk_ok hl.2.1) hl.2.2.1 hl.2.2.2 hr ai bi ri aj bj (fun x hx => (lr _ gt_in_r x hx).symm) (by omega) (by omega) (by omega) ?_
  intro G' f' ok'
  dsimp only
  refine K _ G' ok' ⟨⟨?_, ?_⟩, al.2.1, ⟨⟨?_, ?_⟩, al.2.2, ar⟩⟩ ?_ ?_ ?_
  · rw [gt_hg_i]; have := al.1; omega
  · rw [gt_hg_i]; have := al.1; omega
  · have := al.1; omega
  · have := al.1; omega
  · simp only [gt_il_i, List.append_assoc, List.cons_append]
  · refine Or.inr ⟨Or.inl (by rw [gt_hg_i]; omega), ?_, ?_⟩
    · rw [gt_hg_i, gt_hg_i, gt_hg_i]; have := al.1; omega
    · rw [gt_hg_i, gt_hg_i, gt_hg_i]; have := al.1; omega
  · intro x h1 h2 h3
    exact f' x h1 (h2 _ gt_in_r).symm
theorem gx_balRL {post P : Int32 → SX → Prop} {m i p mr j pr mk k pk : Nat} {l a b c : gt_T} (z : G 0 = gx_z) (hi : 0 < i ∧ i < 41) (hk : gx_lk (G i) m p (gt_rp l) j) (hl : gx_ok G l) (hr : gx_ok G (.inner mr j pr (.inner mk k pk a b) c))
    (al : gt_av l) (ar : gt_av (.inner mr j pr (.inner mk k pk a b) c)) (bl : gt_hg l < 80) (hb : gt_hg (.inner mr j pr (.inner mk k pk a b) c) = gt_hg l + 2)
    (nd : gt_nd (gt_il l ++ (i, p, m) :: gt_il (.inner mr j pr (.inner mk k pk a b) c))) (c3 : gt_hg c < gt_hg (.inner mk k pk a b)) (K : gx_bk post W rt fr dp G pa m i p l (.inner mr j pr (.inner mk k pk a b) c))
    (hP : ∀ (r : Int32) (G2 : Nat → gx_C), (vp_in (nI i) 41 ∧ ∀ y : Nat → Int32, y = upd (fun qq => (G2 qq).2.2.2.1) i r → wX_balance_131 post (nI i) rt fr dp W.1 W.2.1 W.2.2.1 W.2.2.2.1 W.2.2.2.2.1 (fun qq => (G2 qq).1) (fun qq => (G2 qq).2.1) (fun qq => (G2 qq).2.2.1) y (fun qq => (G2 qq).2.2.2.2.1) (fun qq => (G2 qq).2.2.2.2.2.1) (fun qq => (G2 qq).2.2.2.2.2.2.1) (fun qq => (G2 qq).2.2.2.2.2.2.2) pa W.2.2.2.2.2.1 W.2.2.2.2.2.2.1 W.2.2.2.2.2.2.2.1 W.2.2.2.2.2.2.2.2.1 W.2.2.2.2.2.2.2.2.2) → P r (gx_s W rt fr dp G2 pa)) :
    wpX_turnRight P (gx_s W rt fr dp G pa) (nI j) := by
  obtain ⟨nl, nr, li, ri, lr⟩ := gt_nd_i nd
  obtain ⟨na, nb, aj, bj, ab⟩ := gt_nd_i nr
  obtain ⟨na1, nb1, ak, bk, ab1⟩ := gt_nd_i na
  obtain ⟨ji, ai, bi⟩ := gt_ni_i (k := i) (fun x hx => ri x hx)
  obtain ⟨ki, aai, abi⟩ := gt_ni_i (k := i) ai
  obtain ⟨kj, aaj, abj⟩ := gt_ni_i (k := j) (fun x hx => aj x hx)
  have hs := hr.2.2.1
  have kin : (k, pk, mk) ∈ gt_il (.inner mr j pr (.inner mk k pk a b) c) := List.mem_append_left _ gt_in_r
  have ck : gt_ni k c := fun x hx => (ab _ gt_in_r x hx).symm
  have lk : gt_ni k l := fun x hx => lr x hx _ kin
  have lj : gt_ni j l := fun x hx => lr x hx _ gt_in_r
  rw [gt_hg_i, gt_hg_i] at hb
  rw [gt_hg_i] at c3
  have a1 := ar.1
  rw [gt_hg_i] at a1
  have a2 := ar.2.1.1
  refine gx_turnR (W := W) (rt := rt) (fr := fr) (dp := dp) (pa := pa) (G := G) (a := a) (b := b) (r := c) z hr.1 hs.1 kj.symm (gx_lk_ok hr.2.1) (gx_lk_ok hs.2.1) hs.2.2.1 hs.2.2.2 hr.2.2.2 aaj abj bj ak bk ck (by omega) (by omega) (by omega) ?_
  intro G2 f2 ok2
  refine hP _ G2 ⟨ga_in hi.2, ?_⟩
  refine nm_e ?_
  unfold wX_balance_131
  have ei : G2 i = G i := f2 i ji.symm ki.symm
  have z2 : G2 0 = gx_z := by rw [f2 0 (by have := hr.1; omega) (by have := hs.1; omega), z]
  obtain ⟨G3, e3⟩ : ∃ G3, G3 = gx_set G2 i (gx_sr (G2 i) (nI k)) := ⟨_, rfl⟩
  refine gx_toR (G := G2) (fun u => wpX_turnLeft _ u (nI i)) ?_
  rw [← e3]
  have f3 : ∀ x, x ≠ i → G3 x = G2 x := fun x hx => by rw [e3, gx_set_n hx]
  have f4 : ∀ x, x ≠ i → x ≠ j → x ≠ k → G3 x = G x := fun x h1 h2 h3 => by rw [f3 x h1, f2 x h2 h3]
  have i3 : G3 i = gx_sr (G i) (nI k) := by rw [e3, gx_set_s, ei]
  refine gx_turnL (W := W) (rt := rt) (fr := fr) (dp := dp) (pa := pa) (G := G3) (j := k) (m := m) (p := p) (m' := mk) (p' := pk) (l := l) (a := a) (b := .inner mr j pr b c) (by rw [f3 0 (by omega), z2]) hi hs.1 ki.symm (by rw [i3]; exact ⟨hk.1, hk.2.1, hk.2.2.1, rfl⟩)
    (by rw [f3 k ki]; exact gx_lk_ok ok2.2.1) (gx_fr _ hl (fun x hx => f4 x.1 (li x hx) (lj x hx) (lk x hx))) (gx_fr _ hs.2.2.1 (fun x hx => f4 x.1 (aai x hx) (aaj x hx) (ak x hx)))
    (gx_fr _ ok2.2.2.2 (fun x hx => f3 x.1 ?_)) li aai ?_ lk ak ?_ (by omega) (by omega) (by rw [gt_hg_i]; omega) ?_
  · rcases List.mem_append.mp hx with h | h
    · exact abi x h
    · rcases List.mem_cons.mp h with h | h
      · rw [h]; exact ji
      · exact bi x h
  · intro x hx
    rcases List.mem_append.mp hx with h | h
    · exact abi x h
    · rcases List.mem_cons.mp h with h | h
      · rw [h]; exact ji
      · exact bi x h
  · intro x hx
    rcases List.mem_append.mp hx with h | h
    · exact bk x h
    · rcases List.mem_cons.mp h with h | h
      · rw [h]; exact kj.symm
      · exact ck x h
  intro G' f' ok'
  dsimp only
  refine K _ G' ok' ⟨⟨?_, ?_⟩, ⟨⟨?_, ?_⟩, al, ar.2.1.2.1⟩, ⟨⟨?_, ?_⟩, ar.2.1.2.2, ar.2.2⟩⟩ ?_ ?_ ?_
  · rw [gt_hg_i, gt_hg_i]; omega
  · rw [gt_hg_i, gt_hg_i]; omega
  · omega
  · omega
  · omega
  · omega
  · simp only [gt_il_i, List.append_assoc, List.cons_append]
  · refine Or.inr ⟨Or.inr (by rw [gt_hg_i, gt_hg_i]; omega), ?_, ?_⟩
    · rw [gt_hg_i, gt_hg_i, gt_hg_i, gt_hg_i, gt_hg_i]; omega
    · rw [gt_hg_i, gt_hg_i, gt_hg_i, gt_hg_i, gt_hg_i]; omega
  · intro x h1 h2 h3
    have xk : x ≠ k := (h3 _ kin).symm
    rw [f' x h1 xk, f4 x h1 (h3 _ gt_in_r).symm xk]
theorem gx_balLR {post P : Int32 → SX → Prop} {m i p mr j pr mk k pk : Nat} {a b c r : gt_T} (z : G 0 = gx_z) (hi : 0 < i ∧ i < 41) (hk : gx_lk (G i) m p j (gt_rp r)) (hl : gx_ok G (.inner mr j pr a (.inner mk k pk b c))) (hr : gx_ok G r)
    (al : gt_av (.inner mr j pr a (.inner mk k pk b c))) (ar : gt_av r) (br : gt_hg r < 80) (hb : gt_hg (.inner mr j pr a (.inner mk k pk b c)) = gt_hg r + 2)
    (nd : gt_nd (gt_il (.inner mr j pr a (.inner mk k pk b c)) ++ (i, p, m) :: gt_il r)) (c3 : gt_hg a < gt_hg (.inner mk k pk b c)) (K : gx_bk post W rt fr dp G pa m i p (.inner mr j pr a (.inner mk k pk b c)) r)
    (hP : ∀ (r : Int32) (G2 : Nat → gx_C), (vp_in (nI i) 41 ∧ ∀ y : Nat → Int32, y = upd (fun qq => (G2 qq).2.2.1) i r → wX_balance_72 post (nI i) rt fr dp W.1 W.2.1 W.2.2.1 W.2.2.2.1 W.2.2.2.2.1 (fun qq => (G2 qq).1) (fun qq => (G2 qq).2.1) y (fun qq => (G2 qq).2.2.2.1) (fun qq => (G2 qq).2.2.2.2.1) (fun qq => (G2 qq).2.2.2.2.2.1) (fun qq => (G2 qq).2.2.2.2.2.2.1) (fun qq => (G2 qq).2.2.2.2.2.2.2) pa W.2.2.2.2.2.1 W.2.2.2.2.2.2.1 W.2.2.2.2.2.2.2.1 W.2.2.2.2.2.2.2.2.1 W.2.2.2.2.2.2.2.2.2) → P r (gx_s W rt fr dp G2 pa)) :
    wpX_turnLeft P (gx_s W rt fr dp G pa) (nI j) := by
  obtain ⟨nl, nr, li, ri, lr⟩ := gt_nd_i nd
  obtain ⟨na, nb, aj, bj, ab⟩ := gt_nd_i nl
  obtain ⟨na1, nb1, bk, ck, ab1⟩ := gt_nd_i nb
  obtain ⟨ji, ai, bi⟩ := gt_ni_i (k := i) (fun x hx => li x hx)
  obtain ⟨ki, bbi, bci⟩ := gt_ni_i (k := i) bi
  obtain ⟨kj, bbj, bcj⟩ := gt_ni_i (k := j) (fun x hx => bj x hx)
  have hs := hl.2.2.2
  have kin : (k, pk, mk) ∈ gt_il (.inner mr j pr a (.inner mk k pk b c)) := List.mem_append_right _ (List.mem_cons_of_mem _ gt_in_r)
  have ak : gt_ni k a := fun x hx => (ab x hx _ gt_in_r)
  have rk : gt_ni k r := fun x hx => (lr _ kin x hx).symm
  have rj : gt_ni j r := fun x hx => (lr _ gt_in_r x hx).symm
  rw [gt_hg_i, gt_hg_i] at hb
  rw [gt_hg_i] at c3
  have a1 := al.1
  rw [gt_hg_i] at a1
  have a2 := al.2.2.1
  refine gx_turnL (W := W) (rt := rt) (fr := fr) (dp := dp) (pa := pa) (G := G) (l := a) (a := b) (b := c) z hl.1 hs.1 kj.symm (gx_lk_ok hl.2.1) (gx_lk_ok hs.2.1) hl.2.2.1 hs.2.2.1 hs.2.2.2 aj bbj bcj ak bk ck (by omega) (by omega) (by omega) ?_
  intro G2 f2 ok2
  refine hP _ G2 ⟨ga_in hi.2, ?_⟩
  refine nm_e ?_
  unfold wX_balance_72
  have ei : G2 i = G i := f2 i ji.symm ki.symm
  have z2 : G2 0 = gx_z := by rw [f2 0 (by have := hl.1; omega) (by have := hs.1; omega), z]
  obtain ⟨G3, e3⟩ : ∃ G3, G3 = gx_set G2 i (gx_sl (G2 i) (nI k)) := ⟨_, rfl⟩
  refine gx_toL (G := G2) (fun u => wpX_turnRight _ u (nI i)) ?_
  rw [← e3]
  have f3 : ∀ x, x ≠ i → G3 x = G2 x := fun x hx => by rw [e3, gx_set_n hx]
  have f4 : ∀ x, x ≠ i → x ≠ j → x ≠ k → G3 x = G x := fun x h1 h2 h3 => by rw [f3 x h1, f2 x h2 h3]
  have i3 : G3 i = gx_sl (G i) (nI k) := by rw [e3, gx_set_s, ei]
  refine gx_turnR (W := W) (rt := rt) (fr := fr) (dp := dp) (pa := pa) (G := G3) (j := k) (m := m) (p := p) (m' := mk) (p' := pk) (a := .inner mr j pr a b) (b := c) (r := r) (by rw [f3 0 (by omega), z2]) hi hs.1 ki.symm (by rw [i3]; exact ⟨hk.1, hk.2.1, rfl, hk.2.2.2⟩)
    (by rw [f3 k ki]; exact gx_lk_ok ok2.2.1) (gx_fr _ ok2.2.2.1 (fun x hx => f3 x.1 ?_)) (gx_fr _ hs.2.2.2 (fun x hx => f4 x.1 (bci x hx) (bcj x hx) (ck x hx)))
    (gx_fr _ hr (fun x hx => f4 x.1 (ri x hx) (rj x hx) (rk x hx))) ?_ bci ri ?_ ck rk (by rw [gt_hg_i]; omega) (by omega) (by omega) ?_
  · rcases List.mem_append.mp hx with h | h
    · exact ai x h
    · rcases List.mem_cons.mp h with h | h
      · rw [h]; exact ji
      · exact bbi x h
  · intro x hx
    rcases List.mem_append.mp hx with h | h
    · exact ai x h
    · rcases List.mem_cons.mp h with h | h
      · rw [h]; exact ji
      · exact bbi x h
  · intro x hx
    rcases List.mem_append.mp hx with h | h
    · exact ak x h
    · rcases List.mem_cons.mp h with h | h
      · rw [h]; exact kj.symm
      · exact bk x h
  intro G' f' ok'
  dsimp only
  refine K _ G' ok' ⟨⟨?_, ?_⟩, ⟨⟨?_, ?_⟩, al.2.1, al.2.2.2.1⟩, ⟨⟨?_, ?_⟩, al.2.2.2.2, ar⟩⟩ ?_ ?_ ?_
  · rw [gt_hg_i, gt_hg_i]; omega
  · rw [gt_hg_i, gt_hg_i]; omega
  · omega
  · omega
  · omega
  · omega
  · simp only [gt_il_i, List.append_assoc, List.cons_append]
  · refine Or.inr ⟨Or.inl (by rw [gt_hg_i, gt_hg_i]; omega), ?_, ?_⟩
    · rw [gt_hg_i, gt_hg_i, gt_hg_i, gt_hg_i, gt_hg_i]; omega
    · rw [gt_hg_i, gt_hg_i, gt_hg_i, gt_hg_i, gt_hg_i]; omega
  · intro x h1 h2 h3
    have xk : x ≠ k := (h2 _ kin).symm
    rw [f' x h1 xk, f4 x h1 (h2 _ gt_in_r).symm xk]
theorem gx_balance {post : Int32 → SX → Prop} {m i p : Nat} {l r : gt_T} (z : G 0 = gx_z) (hi : 0 < i ∧ i < 41) (hk : gx_lk (G i) m p (gt_rp l) (gt_rp r)) (hl : gx_ok G l) (hr : gx_ok G r)
    (al : gt_av l) (ar : gt_av r) (b1 : gt_hg l ≤ gt_hg r + 2) (b2 : gt_hg r ≤ gt_hg l + 2) (bl : gt_hg l < 80) (br : gt_hg r < 80)
    (nd : gt_nd (gt_il l ++ (i, p, m) :: gt_il r)) (K : gx_bk post W rt fr dp G pa m i p l r) :
    wpX_balance post (gx_s W rt fr dp G pa) (nI i) := by
  obtain ⟨nl, nr, li, ri, lr⟩ := gt_nd_i nd
  unfold wpX_balance
  dsimp only
  refine gx_update z hi.2 hk hl hr (by omega) (by omega) ?_
  dsimp only
  obtain ⟨G1, e1⟩ : ∃ G1, G1 = gx_set G i (gt_cl m p l r) := ⟨_, rfl⟩
  rw [← e1, ga_cl hi.2]
  have f1 : ∀ x, x ≠ i → G1 x = G x := fun x hx => by rw [e1, gx_set_n hx]
  have i1 : G1 i = gt_cl m p l r := by rw [e1, gx_set_s]
  have z1 : G1 0 = gx_z := by rw [f1 0 (by omega), z]
  have hl1 : gx_ok G1 l := gx_fr _ hl (fun x hx => f1 _ (li x hx))
  have hr1 : gx_ok G1 r := gx_fr _ hr (fun x hx => f1 _ (ri x hx))
  have vl := ga_in (gx_rp41 hl)
  have vr := ga_in (gx_rp41 hr)
  have k1 : gx_bk post W rt fr dp G1 pa m i p l r := fun t' G' h1 h2 h3 h4 h5 => K t' G' h1 h2 h3 h4 (fun x x1 x2 x3 => by rw [h5 x x1 x2 x3, f1 x x1])
  refine ⟨ga_in hi.2, nm_r (e' := nI (gt_rp l)) (by rw [i1]; rfl) ⟨ga_in hi.2, nm_r (e' := nI (gt_rp r)) (by rw [i1]; rfl) ⟨vl, vr, ?_⟩⟩⟩
  rw [ga_cl (gx_rp41 hl), ga_cl (gx_rp41 hr), gx_h z1 hl1, gx_h z1 hr1]
  refine pk_le (gt_hg l) (gt_hg r + 1) (fun c1 => ⟨vr, vl, pk_le (gt_hg r) (gt_hg l + 1) (fun c2 => ?_) (fun c2 => ?_) rfl (nI_1 _) (by omega) (by omega)⟩) (fun c1 => ?_) rfl (nI_1 _) (by omega) (by omega)
  · exact K (.inner m i p l r) G1 ⟨hi, i1, hl1, hr1⟩ ⟨⟨c1, c2⟩, al, ar⟩ rfl (Or.inl ⟨c1, c2, rfl⟩) (fun x x1 _ _ => f1 x x1)
  · obtain ⟨mr, j, pr, a, b, er⟩ : ∃ mr j pr a b, r = .inner mr j pr a b := by
      cases r with
      | leaf => exact absurd c2 (by show ¬ _ < 0; omega)
      | inner mr j pr a b => exact ⟨mr, j, pr, a, b, rfl⟩
    have hs1 : gx_ok G1 (.inner mr j pr a b) := er ▸ hr1
    have ea : (G1 (gt_rp r)).2.2.1 = nI (gt_rp a) := by rw [er]; show (G1 j).2.2.1 = _; rw [hs1.2.1]; rfl
    have eb : (G1 (gt_rp r)).2.2.2.1 = nI (gt_rp b) := by rw [er]; show (G1 j).2.2.2.1 = _; rw [hs1.2.1]; rfl
    have hi1 : gx_lk (G1 i) m p (gt_rp l) j := by rw [i1, er]; exact ⟨rfl, rfl, rfl, rfl⟩
    have va := gx_rp41 hs1.2.2.1
    have vb := gx_rp41 hs1.2.2.2
    rw [ea, eb, ga_cl va, ga_cl vb, gx_h z1 hs1.2.2.1, gx_h z1 hs1.2.2.2]
    have hh : gt_hg (.inner mr j pr a b) = gt_hg l + 2 := by rw [← er]; omega
    have ba : gt_hg a < 80 ∧ gt_hg b < 80 := by rw [gt_hg_i] at hh; omega
    refine ⟨vr, ga_in vb, vr, ga_in va, pk_le (gt_hg a) (gt_hg b) (fun c3 => ?_) (fun c3 => ?_) rfl rfl (by omega) (by omega)⟩
    · exact gx_balR (a := a) (b := b) z1 hi hi1 hl1 hs1 al (er ▸ ar) bl hh (er ▸ nd) c3 (er ▸ k1)
    · obtain ⟨mk, k, pk, a1, a2, ek⟩ : ∃ mk k pk a1 a2, a = .inner mk k pk a1 a2 := by
        cases a with
        | leaf => exact absurd c3 (by show ¬ _ < 0; omega)
        | inner mr j pr a b => exact ⟨mr, j, pr, a, b, rfl⟩
      subst er
      subst ek
      exact gx_balRL (post := post) (W := W) (rt := rt) (fr := fr) (dp := dp) (pa := pa) (G := G1) z1 hi hi1 hl1 hs1 al ar bl hh nd c3 k1 (by intro r2 G2 h; dsimp only; exact h)
  · obtain ⟨mr, j, pr, a, b, er⟩ : ∃ mr j pr a b, l = .inner mr j pr a b := by
      cases l with
      | leaf => exact absurd c1 (by show ¬ _ < 0; omega)
      | inner mr j pr a b => exact ⟨mr, j, pr, a, b, rfl⟩
    have hs1 : gx_ok G1 (.inner mr j pr a b) := er ▸ hl1
    have ea : (G1 (gt_rp l)).2.2.1 = nI (gt_rp a) := by rw [er]; show (G1 j).2.2.1 = _; rw [hs1.2.1]; rfl
    have eb : (G1 (gt_rp l)).2.2.2.1 = nI (gt_rp b) := by rw [er]; show (G1 j).2.2.2.1 = _; rw [hs1.2.1]; rfl
    have hi1 : gx_lk (G1 i) m p j (gt_rp r) := by rw [i1, er]; exact ⟨rfl, rfl, rfl, rfl⟩
    have va := gx_rp41 hs1.2.2.1
    have vb := gx_rp41 hs1.2.2.2
    rw [ea, eb, ga_cl va, ga_cl vb, gx_h z1 hs1.2.2.1, gx_h z1 hs1.2.2.2]
    have hh : gt_hg (.inner mr j pr a b) = gt_hg r + 2 := by rw [← er]; omega
    have ba : gt_hg a < 80 ∧ gt_hg b < 80 := by rw [gt_hg_i] at hh; omega
    refine ⟨vl, ga_in va, vl, ga_in vb, pk_le (gt_hg b) (gt_hg a) (fun c3 => ?_) (fun c3 => ?_) rfl rfl (by omega) (by omega)⟩
    · exact gx_balL (a := a) (b := b) z1 hi hi1 hs1 hr1 (er ▸ al) ar br hh (er ▸ nd) c3 (er ▸ k1)
    · obtain ⟨mk, k, pk, a1, a2, ek⟩ : ∃ mk k pk a1 a2, b = .inner mk k pk a1 a2 := by
        cases b with
        | leaf => exact absurd c3 (by show ¬ _ < 0; omega)
        | inner mr j pr a b => exact ⟨mr, j, pr, a, b, rfl⟩
      subst er
      subst ek
      exact gx_balLR (post := post) (W := W) (rt := rt) (fr := fr) (dp := dp) (pa := pa) (G := G1) z1 hi hi1 hs1 hr1 al ar br hh nd c3 k1 (by intro r2 G2 h; dsimp only; exact h)
end gxb
end
section
/-! contexts: frames (hole on the left?, times, index, place, the other subtree), the nearest first -/
abbrev gt_F : Type := Bool × Nat × Nat × Nat × gt_T
def gt_pl : List gt_F → List gt_E → List gt_E
  | [], L => L
  | (true, m, i, p, s) :: C, L => gt_pl C (L ++ (i, p, m) :: gt_il s)
  | (false, m, i, p, s) :: C, L => gt_pl C (gt_il s ++ (i, p, m) :: L)
def gt_A : List gt_F → List gt_E
  | [] => []
  | (true, _, _, _, _) :: C => gt_A C
  | (false, m, i, p, s) :: C => gt_A C ++ (gt_il s ++ [(i, p, m)])
def gt_B : List gt_F → List gt_E
  | [] => []
  | (true, m, i, p, s) :: C => (i, p, m) :: (gt_il s ++ gt_B C)
  | (false, _, _, _, _) :: C => gt_B C
theorem gt_pl_ap : ∀ (C : List gt_F) (L : List gt_E), gt_pl C L = gt_A C ++ (L ++ gt_B C) := by
  intro C
  induction C with
  | nil => intro L; simp [gt_pl, gt_A, gt_B]
  | cons f C ih =>
    intro L
    obtain ⟨b, m, i, p, s⟩ := f
    cases b with
    | true => simp only [gt_pl, gt_A, gt_B, ih, List.append_assoc, List.cons_append]
    | false => simp only [gt_pl, gt_A, gt_B, ih, List.append_assoc, List.cons_append, List.nil_append]
def gx_cx (G : Nat → gx_C) : List gt_F → Nat → Prop
  | [], _ => True
  | (true, m, i, p, s) :: C, x => (0 < i ∧ i < 41) ∧ gx_lk (G i) m p x (gt_rp s) ∧ gx_ok G s ∧ gx_cx G C i
  | (false, m, i, p, s) :: C, x => (0 < i ∧ i < 41) ∧ gx_lk (G i) m p (gt_rp s) x ∧ gx_ok G s ∧ gx_cx G C i
def gt_cb : List gt_F → Nat → Prop
  | [], _ => True
  | (_, _, _, _, s) :: C, h => (h ≤ gt_hg s + 1 ∧ gt_hg s ≤ h + 1) ∧ gt_av s ∧ gt_cb C (1 + max h (gt_hg s))
def gx_pa (pa : Nat → Int32) : List gt_F → Prop
  | [] => True
  | f :: C => pa C.length = nI f.2.2.1 ∧ gx_pa pa C
theorem gx_cx_fr {G G' : Nat → gx_C} : ∀ (C : List gt_F) (x : Nat), gx_cx G C x → (∀ e ∈ gt_A C ++ gt_B C, G' e.1 = G e.1) → gx_cx G' C x := by
  intro C
  induction C with
  | nil => intro x _ _; trivial
  | cons f C ih =>
    intro x h fr
    obtain ⟨b, m, i, p, s⟩ := f
    cases b with
    | true =>
      have hi : G' i = G i := fr (i, p, m) (by simp [gt_A, gt_B])
      refine ⟨h.1, by rw [hi]; exact h.2.1, gx_fr s h.2.2.1 (fun e he => fr e (by simp [gt_A, gt_B, he])), ih i h.2.2.2 (fun e he => fr e ?_)⟩
      rcases List.mem_append.mp he with a | a
      · simp [gt_A, gt_B, a]
      · simp [gt_A, gt_B, a]
    | false =>
      have hi : G' i = G i := fr (i, p, m) (by simp [gt_A, gt_B])
      refine ⟨h.1, by rw [hi]; exact h.2.1, gx_fr s h.2.2.1 (fun e he => fr e (by simp [gt_A, gt_B, he])), ih i h.2.2.2 (fun e he => fr e ?_)⟩
      rcases List.mem_append.mp he with a | a
      · simp [gt_A, gt_B, a]
      · simp [gt_A, gt_B, a]
theorem gt_nd_pl {C : List gt_F} {L : List gt_E} (h : gt_nd (gt_pl C L)) : gt_nd L ∧ (∀ x ∈ L, ∀ y ∈ gt_A C ++ gt_B C, x.1 ≠ y.1) := by
  rw [gt_pl_ap] at h
  obtain ⟨h1, h2, h3⟩ := List.pairwise_append.mp h
  obtain ⟨h4, h5, h6⟩ := List.pairwise_append.mp h2
  refine ⟨h4, fun x hx y hy => ?_⟩
  rcases List.mem_append.mp hy with a | a
  · exact (h3 y a x (List.mem_append_left _ hx)).symm
  · exact h6 x hx y a
theorem gt_pl_mem {C : List gt_F} {L : List gt_E} {e : gt_E} (h : e ∈ L) : e ∈ gt_pl C L := by
  rw [gt_pl_ap]
  exact List.mem_append_right _ (List.mem_append_left _ h)
theorem gt_pl_memc {C : List gt_F} {L : List gt_E} {e : gt_E} (h : e ∈ gt_A C ++ gt_B C) : e ∈ gt_pl C L := by
  rw [gt_pl_ap]
  rcases List.mem_append.mp h with a | a
  · exact List.mem_append_left _ a
  · exact List.mem_append_right _ (List.mem_append_right _ a)
theorem gt_pl_len (C : List gt_F) (L : List gt_E) : L.length ≤ (gt_pl C L).length := by
  rw [gt_pl_ap, List.length_append, List.length_append]
  omega
/-- what a new root below the context's hole wants of the last link -/
theorem gx_cx_set {G : Nat → gx_C} {b : Bool} {m i p x y : Nat} {s : gt_T} {C : List gt_F} {L : List gt_E} (h : gx_cx G ((b, m, i, p, s) :: C) x) (nd : gt_nd (gt_pl ((b, m, i, p, s) :: C) L)) :
    gx_cx (gx_set G i (if b then gx_sl (G i) (nI y) else gx_sr (G i) (nI y))) ((b, m, i, p, s) :: C) y := by
  cases b with
  | true =>
    obtain ⟨n1, n2⟩ := gt_nd_pl (C := C) nd
    obtain ⟨_, _, _, n3, _⟩ := gt_nd_i n1
    refine ⟨h.1, ?_, gx_fr_set h.2.2.1 n3, gx_cx_fr C i h.2.2.2 (fun e he => gx_set_n ?_)⟩
    · rw [gx_set_s]; exact ⟨h.2.1.1, h.2.1.2.1, rfl, h.2.1.2.2.2⟩
    · exact (n2 (i, p, m) (List.mem_append_right _ List.mem_cons_self) e he).symm
  | false =>
    obtain ⟨n1, n2⟩ := gt_nd_pl (C := C) nd
    obtain ⟨_, _, n3, _, _⟩ := gt_nd_i n1
    refine ⟨h.1, ?_, gx_fr_set h.2.2.1 n3, gx_cx_fr C i h.2.2.2 (fun e he => gx_set_n ?_)⟩
    · rw [gx_set_s]; exact ⟨h.2.1.1, h.2.1.2.1, h.2.1.2.2.1, rfl⟩
    · exact (n2 (i, p, m) (List.mem_append_right _ List.mem_cons_self) e he).symm
theorem gt_hd_mem {b : Bool} {m i p : Nat} {s : gt_T} {C : List gt_F} : (i, p, m) ∈ gt_A ((b, m, i, p, s) :: C) ++ gt_B ((b, m, i, p, s) :: C) := by
  cases b with
  | true => simp [gt_A, gt_B]
  | false => simp [gt_A, gt_B]
theorem gt_sib_mem {b : Bool} {m i p : Nat} {s : gt_T} {C : List gt_F} {e : gt_E} (h : e ∈ gt_il s) : e ∈ gt_A ((b, m, i, p, s) :: C) ++ gt_B ((b, m, i, p, s) :: C) := by
  cases b with
  | true => simp [gt_A, gt_B, h]
  | false => simp [gt_A, gt_B, h]
theorem gt_rp_mem {G : Nat → gx_C} {t : gt_T} (h : gx_ok G t) (h0 : gt_rp t ≠ 0) : ∃ e ∈ gt_il t, e.1 = gt_rp t := by
  cases t with
  | leaf => exact absurd rfl h0
  | inner m i p l r => exact ⟨(i, p, m), gt_in_r, rfl⟩
end
section
section gxm
variable {W : gx_W} {rt fr dp : Int32} {G : Nat → gx_C} {pa : Nat → Int32}
theorem ga_mm (a : Nat) : nI a + (-1) = nI a - 1 := (Int32.sub_eq_add_neg _ _).symm
theorem gx_mendC {post : SX → Prop} {n : Nat} (C : List gt_F) (i : Nat) (t : gt_T) (z : G 0 = gx_z) (ok : gx_ok G t) (hi : 0 < i ∧ i < 41) (it : ∃ e ∈ gt_il t, e.1 = i) (cx : gx_cx G C i) (hp : gx_pa pa C) (nd : gt_nd (gt_pl C (gt_il t))) (hc : C.length < 16)
    (J : ∀ (rt' : Int32) (G' : Nat → gx_C), G' 0 = gx_z → gx_ok G' t → gx_cx G' C (gt_rp t) → (C = [] → rt' = nI (gt_rp t)) → (∀ x, (∀ e ∈ gt_pl C (gt_il t), e.1 ≠ x) → G' x = G x) → wX_mendPath_7 post n (nI C.length - 1) rt' fr dp W.1 W.2.1 W.2.2.1 W.2.2.2.1 W.2.2.2.2.1 (fun qq => (G' qq).1) (fun qq => (G' qq).2.1) (fun qq => (G' qq).2.2.1) (fun qq => (G' qq).2.2.2.1) (fun qq => (G' qq).2.2.2.2.1) (fun qq => (G' qq).2.2.2.2.2.1) (fun qq => (G' qq).2.2.2.2.2.2.1) (fun qq => (G' qq).2.2.2.2.2.2.2) pa W.2.2.2.2.2.1 W.2.2.2.2.2.2.1 W.2.2.2.2.2.2.2.1 W.2.2.2.2.2.2.2.2.1 W.2.2.2.2.2.2.2.2.2) :
    ((nI C.length = 0 → ∀ y : Int32, y = nI C.length + (-1) → wX_mendPath_7 post n y (nI (gt_rp t)) fr dp W.1 W.2.1 W.2.2.1 W.2.2.2.1 W.2.2.2.2.1 (fun qq => (G qq).1) (fun qq => (G qq).2.1) (fun qq => (G qq).2.2.1) (fun qq => (G qq).2.2.2.1) (fun qq => (G qq).2.2.2.2.1) (fun qq => (G qq).2.2.2.2.2.1) (fun qq => (G qq).2.2.2.2.2.2.1) (fun qq => (G qq).2.2.2.2.2.2.2) pa W.2.2.2.2.2.1 W.2.2.2.2.2.2.1 W.2.2.2.2.2.2.2.1 W.2.2.2.2.2.2.2.2.1 W.2.2.2.2.2.2.2.2.2) ∧ (¬ nI C.length = 0 → ((nI (gt_rp t) = nI i → ∀ y : Int32, y = nI C.length + (-1) → wX_mendPath_7 post n y rt fr dp W.1 W.2.1 W.2.2.1 W.2.2.2.1 W.2.2.2.2.1 (fun qq => (G qq).1) (fun qq => (G qq).2.1) (fun qq => (G qq).2.2.1) (fun qq => (G qq).2.2.2.1) (fun qq => (G qq).2.2.2.2.1) (fun qq => (G qq).2.2.2.2.2.1) (fun qq => (G qq).2.2.2.2.2.2.1) (fun qq => (G qq).2.2.2.2.2.2.2) pa W.2.2.2.2.2.1 W.2.2.2.2.2.2.1 W.2.2.2.2.2.2.2.1 W.2.2.2.2.2.2.2.2.1 W.2.2.2.2.2.2.2.2.2) ∧ (¬ nI (gt_rp t) = nI i → vp_in (nI C.length - 1) 16 ∧ ∀ y : Int32, y = pa (nI C.length - 1).toNatClampNeg → vp_in y 41 ∧ (((G y.toNatClampNeg).2.2.1 = nI i → wX_mendPath_70 post (wX_mendPath_7 post n) (nI C.length) (nI (gt_rp t)) 1 y rt fr dp W.1 W.2.1 W.2.2.1 W.2.2.2.1 W.2.2.2.2.1 (fun qq => (G qq).1) (fun qq => (G qq).2.1) (fun qq => (G qq).2.2.1) (fun qq => (G qq).2.2.2.1) (fun qq => (G qq).2.2.2.2.1) (fun qq => (G qq).2.2.2.2.2.1) (fun qq => (G qq).2.2.2.2.2.2.1) (fun qq => (G qq).2.2.2.2.2.2.2) pa W.2.2.2.2.2.1 W.2.2.2.2.2.2.1 W.2.2.2.2.2.2.2.1 W.2.2.2.2.2.2.2.2.1 W.2.2.2.2.2.2.2.2.2) ∧ (¬ (G y.toNatClampNeg).2.2.1 = nI i → wX_mendPath_70 post (wX_mendPath_7 post n) (nI C.length) (nI (gt_rp t)) 0 y rt fr dp W.1 W.2.1 W.2.2.1 W.2.2.2.1 W.2.2.2.2.1 (fun qq => (G qq).1) (fun qq => (G qq).2.1) (fun qq => (G qq).2.2.1) (fun qq => (G qq).2.2.2.1) (fun qq => (G qq).2.2.2.2.1) (fun qq => (G qq).2.2.2.2.2.1) (fun qq => (G qq).2.2.2.2.2.2.1) (fun qq => (G qq).2.2.2.2.2.2.2) pa W.2.2.2.2.2.1 W.2.2.2.2.2.2.1 W.2.2.2.2.2.2.2.1 W.2.2.2.2.2.2.2.2.1 W.2.2.2.2.2.2.2.2.2)))))) := by
  cases C with
  | nil =>
    refine br_t rfl (nm_r (e' := nI 0 - 1) (ga_mm 0) ?_)
    exact J _ G z ok trivial (fun _ => rfl) (fun _ _ => rfl)
  | cons f C =>
    obtain ⟨b, m, k, p, s⟩ := f
    have hl : ((b, m, k, p, s) :: C).length = C.length + 1 := rfl
    have r41 := gx_rp41 ok
    refine br_f (by rw [hl, ga_eq0 (by rw [hl] at hc; omega)]; omega) (br_c (fun e => ?_) (fun e => ?_))
    · have e2 : gt_rp t = i := ga_im e (by omega) (by omega)
      refine nm_r (ga_mm _) (J rt G z ok ?_ (fun q => nomatch q) (fun _ _ => rfl))
      rw [e2]; exact cx
    · have hk : 0 < k ∧ k < 41 := by cases b with
        | true => exact cx.1
        | false => exact cx.1
      have hne : gt_rp t ≠ i := fun q => e (congrArg nI q)
      obtain ⟨e0, he0, hei⟩ := it
      obtain ⟨nt, ntc⟩ := gt_nd_pl nd
      have hpk : pa (nI (C.length + 1) - 1).toNatClampNeg = nI k := by
        rw [nI_pred, nI_clamp (by rw [hl] at hc; omega)]; exact hp.1
      have hset := gx_cx_set (y := gt_rp t) cx nd
      have tk : ∀ x ∈ gt_il t, x.1 ≠ k := fun x hx => ntc x hx _ gt_hd_mem
      have fin : ∀ c : gx_C, gx_cx (gx_set G k c) ((b, m, k, p, s) :: C) (gt_rp t) → wX_mendPath_7 post n (nI (C.length + 1) - 1) rt fr dp W.1 W.2.1 W.2.2.1 W.2.2.2.1 W.2.2.2.2.1 (fun qq => ((gx_set G k c) qq).1) (fun qq => ((gx_set G k c) qq).2.1) (fun qq => ((gx_set G k c) qq).2.2.1) (fun qq => ((gx_set G k c) qq).2.2.2.1) (fun qq => ((gx_set G k c) qq).2.2.2.2.1) (fun qq => ((gx_set G k c) qq).2.2.2.2.2.1) (fun qq => ((gx_set G k c) qq).2.2.2.2.2.2.1) (fun qq => ((gx_set G k c) qq).2.2.2.2.2.2.2) pa W.2.2.2.2.2.1 W.2.2.2.2.2.2.1 W.2.2.2.2.2.2.2.1 W.2.2.2.2.2.2.2.2.1 W.2.2.2.2.2.2.2.2.2 := by
        intro c hcx
        refine J rt (gx_set G k c) (by rw [gx_set_n (by omega), z]) (gx_fr_set ok tk) hcx (fun q => nomatch q) (fun x hx => gx_set_n ?_)
        exact (hx _ (gt_pl_memc gt_hd_mem)).symm
      refine ⟨?_, nm_r hpk ⟨ga_in hk.2, ?_⟩⟩
      · rw [hl, nI_pred]; exact vp_in_nI (by rw [hl] at hc; omega) (by omega)
      · rw [ga_cl hk.2]
        cases b with
        | true =>
          refine br_t cx.2.1.2.2.1 ?_
          unfold wX_mendPath_70
          refine gx_attL hk.2 ?_
          dsimp only
          exact nm_r (ga_mm _) (fin _ hset)
        | false =>
          have hs : gt_rp s ≠ i := by
            intro q
            obtain ⟨e1, he1, hq⟩ := gt_rp_mem cx.2.2.1 (by omega)
            exact ntc e0 he0 e1 (gt_sib_mem he1) (by rw [hei, hq, q])
          refine br_f (by rw [cx.2.1.2.2.1]; exact fun q => hs (ga_im q (by have := gx_rp41 cx.2.2.1; omega) (by omega))) ?_
          unfold wX_mendPath_70
          refine gx_attR hk.2 ?_
          dsimp only
          exact nm_r (ga_mm _) (fin _ hset)
/-- the continuation of mendPath -/
def gx_mk (post : SX → Prop) (W : gx_W) (fr dp : Int32) (G : Nat → gx_C) (pa : Nat → Int32) (L : List gt_E) : Prop :=
  ∀ (T : gt_T) (G' : Nat → gx_C), G' 0 = gx_z → gx_ok G' T → gt_av T → gt_il T = L → (∀ x, (∀ e ∈ L, e.1 ≠ x) → G' x = G x) → post (gx_s W (nI (gt_rp T)) fr dp G' pa)
theorem gx_mend7 {post : SX → Prop} : ∀ (C : List gt_F) (t : gt_T) (h n : Nat) (rt : Int32) (G : Nat → gx_C), G 0 = gx_z → gx_ok G t → gt_av t → (h ≤ gt_hg t + 1 ∧ gt_hg t ≤ h + 1) → gt_cb C h → gx_cx G C (gt_rp t) → gx_pa pa C →
    gt_nd (gt_pl C (gt_il t)) → (gt_pl C (gt_il t)).length ≤ 41 → C.length ≤ 16 → C.length < n → (C = [] → rt = nI (gt_rp t)) → gx_mk post W fr dp G pa (gt_pl C (gt_il t)) →
    wX_mendPath_7 post n (nI C.length - 1) rt fr dp W.1 W.2.1 W.2.2.1 W.2.2.2.1 W.2.2.2.2.1 (fun qq => (G qq).1) (fun qq => (G qq).2.1) (fun qq => (G qq).2.2.1) (fun qq => (G qq).2.2.2.1) (fun qq => (G qq).2.2.2.2.1) (fun qq => (G qq).2.2.2.2.2.1) (fun qq => (G qq).2.2.2.2.2.2.1) (fun qq => (G qq).2.2.2.2.2.2.2) pa W.2.2.2.2.2.1 W.2.2.2.2.2.2.1 W.2.2.2.2.2.2.2.1 W.2.2.2.2.2.2.2.2.1 W.2.2.2.2.2.2.2.2.2 := by
  intro C
  induction C with
  | nil =>
    intro t h n rt G z ok av hh cb cx hp nd len hc hn hr K
    obtain ⟨n, rfl⟩ : ∃ a, n = a + 1 := ⟨n - 1, by omega⟩
    have e := hr rfl
    subst e
    exact br_t (by decide) (K t G z ok av rfl (fun _ _ => rfl))
  | cons f C ih =>
    intro t h n rt G z ok av hh cb cx hp nd len hc hn hr K
    obtain ⟨n, rfl⟩ : ∃ a, n = a + 1 := ⟨n - 1, by omega⟩
    obtain ⟨b, m, i, p, s⟩ := f
    have hl : ((b, m, i, p, s) :: C).length = C.length + 1 := rfl
    rw [hl] at hc hn
    rw [hl, nI_pred]
    refine br_f (nI_pos (by omega)) ⟨vp_in_nI (by omega) (by omega), ?_⟩
    rw [nI_clamp (by omega)]
    refine nm_r hp.1 ?_
    obtain ⟨cb1, cb2, cb3⟩ := cb
    have bs : gt_hg s ≤ 41 ∧ gt_hg t ≤ 41 := by
      have a1 := gt_hg_len s
      have a2 := gt_hg_len t
      cases b with
      | true =>
        have a3 := gt_pl_len C (gt_il t ++ (i, p, m) :: gt_il s)
        have a4 : (gt_pl C (gt_il t ++ (i, p, m) :: gt_il s)).length ≤ 41 := len
        rw [List.length_append, List.length_cons] at a3
        omega
      | false =>
        have a3 := gt_pl_len C (gt_il s ++ (i, p, m) :: gt_il t)
        have a4 : (gt_pl C (gt_il s ++ (i, p, m) :: gt_il t)).length ≤ 41 := len
        rw [List.length_append, List.length_cons] at a3
        omega
    cases b with
    | true =>
      obtain ⟨n1, n2⟩ := gt_nd_pl (C := C) nd
      refine gx_balance (m := m) (p := p) (l := t) (r := s) z cx.1 cx.2.1 ok cx.2.2.1 av cb2 (by omega) (by omega) (by omega) (by omega) n1 ?_
      intro t' G' ok' av' il' hc' fr'
      dsimp only
      have frc : ∀ e ∈ gt_A C ++ gt_B C, G' e.1 = G e.1 := fun e he => fr' e.1 ((n2 (i, p, m) (List.mem_append_right _ List.mem_cons_self) e he).symm)
        (fun x hx => n2 x (List.mem_append_left _ hx) e he) (fun x hx => n2 x (List.mem_append_right _ (List.mem_cons_of_mem _ hx)) e he)
      have plE : gt_pl C (gt_il t') = gt_pl ((true, m, i, p, s) :: C) (gt_il t) := by rw [il']; rfl
      have z' : G' 0 = gx_z := by
        have hi0 : (0 : Nat) ≠ i := Nat.ne_of_lt cx.1.1
        rw [fr' 0 hi0 (fun e he => by have := gx_ids t ok e he; omega) (fun e he => by have := gx_ids s cx.2.2.1 e he; omega), z]
      refine gx_mendC C i t' z' ok' cx.1 ⟨(i, p, m), by rw [il']; exact List.mem_append_right _ List.mem_cons_self, rfl⟩ (gx_cx_fr C i cx.2.2.2 frc) hp.2 (by rw [plE]; exact nd) (by omega) ?_
      intro rt' G'' z'' ok'' cx'' hr' fr''
      refine ih t' (1 + max h (gt_hg s)) n rt' G'' z'' ok'' av' ?_ cb3 cx'' hp.2 (by rw [plE]; exact nd) (by rw [plE]; exact len) (by omega) (by omega) hr' ?_
      · unfold gt_hc at hc'; omega
      · intro T GT zT okT avT ilT frT
        refine K T GT zT okT avT (by rw [ilT, plE]) (fun x hx => ?_)
        have hx' : ∀ e ∈ gt_pl C (gt_il t'), e.1 ≠ x := by rw [plE]; exact hx
        rw [frT x hx', fr'' x hx']
        exact fr' x (Ne.symm (hx (i, p, m) (gt_pl_memc gt_hd_mem))) (fun e he => hx e (gt_pl_mem he)) (fun e he => hx e (gt_pl_memc (gt_sib_mem he)))
    | false =>
      obtain ⟨n1, n2⟩ := gt_nd_pl (C := C) nd
      refine gx_balance (m := m) (p := p) (l := s) (r := t) z cx.1 cx.2.1 cx.2.2.1 ok cb2 av (by omega) (by omega) (by omega) (by omega) n1 ?_
      intro t' G' ok' av' il' hc' fr'
      dsimp only
      have frc : ∀ e ∈ gt_A C ++ gt_B C, G' e.1 = G e.1 := fun e he => fr' e.1 ((n2 (i, p, m) (List.mem_append_right _ List.mem_cons_self) e he).symm)
        (fun x hx => n2 x (List.mem_append_left _ hx) e he) (fun x hx => n2 x (List.mem_append_right _ (List.mem_cons_of_mem _ hx)) e he)
      have plE : gt_pl C (gt_il t') = gt_pl ((false, m, i, p, s) :: C) (gt_il t) := by rw [il']; rfl
      have z' : G' 0 = gx_z := by
        have hi0 : (0 : Nat) ≠ i := Nat.ne_of_lt cx.1.1
        rw [fr' 0 hi0 (fun e he => by have := gx_ids s cx.2.2.1 e he; omega) (fun e he => by have := gx_ids t ok e he; omega), z]
      refine gx_mendC C i t' z' ok' cx.1 ⟨(i, p, m), by rw [il']; exact List.mem_append_right _ List.mem_cons_self, rfl⟩ (gx_cx_fr C i cx.2.2.2 frc) hp.2 (by rw [plE]; exact nd) (by omega) ?_
      intro rt' G'' z'' ok'' cx'' hr' fr''
      refine ih t' (1 + max h (gt_hg s)) n rt' G'' z'' ok'' av' ?_ cb3 cx'' hp.2 (by rw [plE]; exact nd) (by rw [plE]; exact len) (by omega) (by omega) hr' ?_
      · unfold gt_hc at hc'; omega
      · intro T GT zT okT avT ilT frT
        refine K T GT zT okT avT (by rw [ilT, plE]) (fun x hx => ?_)
        have hx' : ∀ e ∈ gt_pl C (gt_il t'), e.1 ≠ x := by rw [plE]; exact hx
        rw [frT x hx', fr'' x hx']
        exact fr' x (Ne.symm (hx (i, p, m) (gt_pl_memc gt_hd_mem))) (fun e he => hx e (gt_pl_memc (gt_sib_mem he))) (fun e he => hx e (gt_pl_mem he))
theorem gx_mend {post : SX → Prop} {C : List gt_F} {t : gt_T} {h d : Nat} (hd : d = C.length) (z : G 0 = gx_z) (ok : gx_ok G t) (av : gt_av t) (hh : h ≤ gt_hg t + 1 ∧ gt_hg t ≤ h + 1) (cb : gt_cb C h) (cx : gx_cx G C (gt_rp t)) (hp : gx_pa pa C)
    (nd : gt_nd (gt_pl C (gt_il t))) (len : (gt_pl C (gt_il t)).length ≤ 41) (hc : C.length ≤ 16) (hr : C = [] → rt = nI (gt_rp t)) (K : gx_mk post W fr (nI d) G pa (gt_pl C (gt_il t))) :
    wpX_mendPath post (gx_s W rt fr (nI d) G pa) := by
  subst hd
  exact nm_e ⟨C.length + 1, gx_mend7 C t h _ rt G z ok av hh cb cx hp nd len hc (by omega) hr K⟩
end gxm
end
section
/-! sums over lists of entries -/
def gt_wt (f : gt_E → Nat) : List gt_E → Nat
  | [] => 0
  | x :: L => f x + gt_wt f L
def gt_wi (f : gt_E → Int32) : List gt_E → Int32
  | [] => 0
  | x :: L => f x + gt_wi f L
theorem gt_wt_ap (f : gt_E → Nat) (L M : List gt_E) : gt_wt f (L ++ M) = gt_wt f L + gt_wt f M := by
  induction L with
  | nil => show gt_wt f M = 0 + gt_wt f M; omega
  | cons x L ih => show f x + gt_wt f (L ++ M) = f x + gt_wt f L + gt_wt f M; omega
theorem gt_wi_ap (f : gt_E → Int32) (L M : List gt_E) : gt_wi f (L ++ M) = gt_wi f L + gt_wi f M := by
  induction L with
  | nil => show gt_wi f M = 0 + gt_wi f M; rw [Int32.zero_add]
  | cons x L ih => show f x + gt_wi f (L ++ M) = f x + gt_wi f L + gt_wi f M; rw [ih, Int32.add_assoc]
theorem gt_wt_cg {f g : gt_E → Nat} : ∀ L : List gt_E, (∀ x ∈ L, f x = g x) → gt_wt f L = gt_wt g L := by
  intro L
  induction L with
  | nil => intro _; rfl
  | cons x L ih => intro h; show f x + _ = g x + _; rw [h x List.mem_cons_self, ih (fun y hy => h y (List.mem_cons_of_mem _ hy))]
theorem gt_wi_cg {f g : gt_E → Int32} : ∀ L : List gt_E, (∀ x ∈ L, f x = g x) → gt_wi f L = gt_wi g L := by
  intro L
  induction L with
  | nil => intro _; rfl
  | cons x L ih => intro h; show f x + _ = g x + _; rw [h x List.mem_cons_self, ih (fun y hy => h y (List.mem_cons_of_mem _ hy))]
theorem gt_wt_0 : ∀ L : List gt_E, gt_wt (fun _ => 0) L = 0 := by
  intro L
  induction L with
  | nil => rfl
  | cons x L ih => show 0 + gt_wt (fun _ => 0) L = 0; omega
theorem gt_wi_0 : ∀ L : List gt_E, gt_wi (fun _ => 0) L = 0 := by
  intro L
  induction L with
  | nil => rfl
  | cons x L ih => show 0 + gt_wi (fun _ => 0) L = 0; rw [ih]; rfl
theorem gt_tot_wt : ∀ L : List gt_E, gt_tot L = gt_wt (fun x => x.2.2) L := by
  intro L
  induction L with
  | nil => rfl
  | cons x L ih => show _ + gt_tot L = _ + _; rw [ih]
theorem gt_len_wt : ∀ L : List gt_E, L.length = gt_wt (fun _ => 1) L := by
  intro L
  induction L with
  | nil => rfl
  | cons x L ih => show L.length + 1 = 1 + _; rw [ih]; omega
theorem gt_sm_wi : ∀ L : List gt_E, gt_sm L = gt_wi (fun x => nI x.2.2 * ga_vl x.2.1) L := by
  intro L
  induction L with
  | nil => rfl
  | cons x L ih => show _ + gt_sm L = _ + _; rw [ih]
def gt_rb (q : Nat) (L : List gt_E) : Nat := gt_wt (fun x => if x.2.1 < q then x.2.2 else 0) L
def gt_kb (q : Nat) (L : List gt_E) : Nat := gt_wt (fun x => if x.2.1 < q then 1 else 0) L
def gt_sb (q : Nat) (L : List gt_E) : Int32 := gt_wi (fun x => if x.2.1 < q then nI x.2.2 * ga_vl x.2.1 else 0) L
def gt_tm (q : Nat) (L : List gt_E) : Nat := gt_wt (fun x => if x.2.1 = q then x.2.2 else 0) L
def gt_so (L : List gt_E) : Prop := L.Pairwise (fun x y => x.2.1 < y.2.1)
def gt_at : List gt_E → Nat → Nat
  | [], _ => 0
  | x :: L, j => if j < x.2.2 then x.2.1 else gt_at L (j - x.2.2)
theorem gt_so_i {A B : List gt_E} {e : gt_E} (h : gt_so (A ++ e :: B)) : gt_so A ∧ gt_so B ∧ (∀ x ∈ A, x.2.1 < e.2.1) ∧ (∀ x ∈ B, e.2.1 < x.2.1) ∧ (∀ x ∈ A, ∀ y ∈ B, x.2.1 < y.2.1) := by
  obtain ⟨h1, h2, h3⟩ := List.pairwise_append.mp h
  obtain ⟨h4, h5⟩ := List.pairwise_cons.mp h2
  exact ⟨h1, h5, fun x hx => h3 x hx e List.mem_cons_self, fun x hx => h4 x hx, fun x hx y hy => h3 x hx y (List.mem_cons_of_mem _ hy)⟩
theorem gt_rb_lo {q i p m : Nat} {A B : List gt_E} (h : gt_so (A ++ (i, p, m) :: B)) (c : q ≤ p) : gt_rb q (A ++ (i, p, m) :: B) = gt_rb q A := by
  obtain ⟨_, _, _, h1, _⟩ := gt_so_i h
  have e : gt_rb q B = 0 := by
    rw [← gt_wt_0 B]
    exact gt_wt_cg B (fun x hx => if_neg (by have := h1 x hx; dsimp only at this; omega))
  unfold gt_rb at e ⊢
  rw [gt_wt_ap]
  show _ + ((if p < q then m else 0) + gt_wt _ B) = _
  rw [e, if_neg (by omega)]
  rfl
theorem gt_rb_hi {q i p m : Nat} {A B : List gt_E} (h : gt_so (A ++ (i, p, m) :: B)) (c : p < q) : gt_rb q (A ++ (i, p, m) :: B) = gt_tot A + m + gt_rb q B := by
  obtain ⟨_, _, h1, _, _⟩ := gt_so_i h
  have e : gt_rb q A = gt_tot A := by
    rw [gt_tot_wt]
    exact gt_wt_cg A (fun x hx => if_pos (by have := h1 x hx; dsimp only at this; omega))
  unfold gt_rb at e ⊢
  rw [gt_wt_ap]
  show _ + ((if p < q then m else 0) + gt_wt _ B) = _
  rw [e, if_pos c]
  omega
theorem gt_kb_lo {q i p m : Nat} {A B : List gt_E} (h : gt_so (A ++ (i, p, m) :: B)) (c : q ≤ p) : gt_kb q (A ++ (i, p, m) :: B) = gt_kb q A := by
  obtain ⟨_, _, _, h1, _⟩ := gt_so_i h
  have e : gt_kb q B = 0 := by
    rw [← gt_wt_0 B]
    exact gt_wt_cg B (fun x hx => if_neg (by have := h1 x hx; dsimp only at this; omega))
  unfold gt_kb at e ⊢
  rw [gt_wt_ap]
  show _ + ((if p < q then 1 else 0) + gt_wt _ B) = _
  rw [e, if_neg (by omega)]
  rfl
theorem gt_kb_hi {q i p m : Nat} {A B : List gt_E} (h : gt_so (A ++ (i, p, m) :: B)) (c : p < q) : gt_kb q (A ++ (i, p, m) :: B) = A.length + 1 + gt_kb q B := by
  obtain ⟨_, _, h1, _, _⟩ := gt_so_i h
  have e : gt_kb q A = A.length := by
    rw [gt_len_wt]
    exact gt_wt_cg A (fun x hx => if_pos (by have := h1 x hx; dsimp only at this; omega))
  unfold gt_kb at e ⊢
  rw [gt_wt_ap]
  show _ + ((if p < q then 1 else 0) + gt_wt _ B) = _
  rw [e, if_pos c]
  omega
theorem gt_sb_lo {q i p m : Nat} {A B : List gt_E} (h : gt_so (A ++ (i, p, m) :: B)) (c : q ≤ p) : gt_sb q (A ++ (i, p, m) :: B) = gt_sb q A := by
  obtain ⟨_, _, _, h1, _⟩ := gt_so_i h
  have e : gt_sb q B = 0 := by
    rw [← gt_wi_0 B]
    exact gt_wi_cg B (fun x hx => if_neg (by have := h1 x hx; dsimp only at this; omega))
  unfold gt_sb at e ⊢
  rw [gt_wi_ap]
  show _ + ((if p < q then nI m * ga_vl p else 0) + gt_wi _ B) = _
  rw [e, if_neg (by omega), Int32.add_zero, Int32.add_zero]
theorem gt_sb_hi {q i p m : Nat} {A B : List gt_E} (h : gt_so (A ++ (i, p, m) :: B)) (c : p < q) : gt_sb q (A ++ (i, p, m) :: B) = gt_sm A + nI m * ga_vl p + gt_sb q B := by
  obtain ⟨_, _, h1, _, _⟩ := gt_so_i h
  have e : gt_sb q A = gt_sm A := by
    rw [gt_sm_wi]
    exact gt_wi_cg A (fun x hx => if_pos (by have := h1 x hx; dsimp only at this; omega))
  unfold gt_sb at e ⊢
  rw [gt_wi_ap]
  show _ + ((if p < q then nI m * ga_vl p else 0) + gt_wi _ B) = _
  rw [e, if_pos c, Int32.add_assoc]
theorem gt_tm_lo {q i p m : Nat} {A B : List gt_E} (h : gt_so (A ++ (i, p, m) :: B)) (c : q < p) : gt_tm q (A ++ (i, p, m) :: B) = gt_tm q A := by
  obtain ⟨_, _, _, h1, _⟩ := gt_so_i h
  have e : gt_tm q B = 0 := by
    rw [← gt_wt_0 B]
    exact gt_wt_cg B (fun x hx => if_neg (by have := h1 x hx; dsimp only at this; omega))
  unfold gt_tm at e ⊢
  rw [gt_wt_ap]
  show _ + ((if p = q then m else 0) + gt_wt _ B) = _
  rw [e, if_neg (by omega)]
  rfl
theorem gt_tm_hi {q i p m : Nat} {A B : List gt_E} (h : gt_so (A ++ (i, p, m) :: B)) (c : p < q) : gt_tm q (A ++ (i, p, m) :: B) = gt_tm q B := by
  obtain ⟨_, _, h1, _, _⟩ := gt_so_i h
  have e : gt_tm q A = 0 := by
    rw [← gt_wt_0 A]
    exact gt_wt_cg A (fun x hx => if_neg (by have := h1 x hx; dsimp only at this; omega))
  unfold gt_tm at e ⊢
  rw [gt_wt_ap]
  show _ + ((if p = q then m else 0) + gt_wt _ B) = _
  rw [e, if_neg (by omega)]
  omega
theorem gt_tm_eq {q i p m : Nat} {A B : List gt_E} (h : gt_so (A ++ (i, p, m) :: B)) (c : p = q) : gt_tm q (A ++ (i, p, m) :: B) = m := by
  obtain ⟨_, _, h1, h2, _⟩ := gt_so_i h
  have e : gt_tm q A = 0 := by
    rw [← gt_wt_0 A]
    exact gt_wt_cg A (fun x hx => if_neg (by have := h1 x hx; dsimp only at this; omega))
  have e2 : gt_tm q B = 0 := by
    rw [← gt_wt_0 B]
    exact gt_wt_cg B (fun x hx => if_neg (by have := h2 x hx; dsimp only at this; omega))
  unfold gt_tm at e e2 ⊢
  rw [gt_wt_ap]
  show _ + ((if p = q then m else 0) + gt_wt _ B) = _
  rw [e, e2, if_pos c]
  omega
theorem gt_at_lo : ∀ (A B : List gt_E) (j : Nat), j < gt_tot A → gt_at (A ++ B) j = gt_at A j := by
  intro A B
  induction A with
  | nil => intro j h; exact absurd h (Nat.not_lt_zero _)
  | cons x A ih =>
    intro j h
    show (if j < x.2.2 then x.2.1 else gt_at (A ++ B) (j - x.2.2)) = if j < x.2.2 then x.2.1 else gt_at A (j - x.2.2)
    by_cases c : j < x.2.2
    · rw [if_pos c, if_pos c]
    · rw [if_neg c, if_neg c]
      exact ih _ (by have h' : j < x.2.2 + gt_tot A := h; omega)
theorem gt_at_hi : ∀ (A B : List gt_E) (j : Nat), gt_tot A ≤ j → gt_at (A ++ B) j = gt_at B (j - gt_tot A) := by
  intro A B
  induction A with
  | nil => intro j h; rfl
  | cons x A ih =>
    intro j h
    have h' : x.2.2 + gt_tot A ≤ j := h
    show (if j < x.2.2 then x.2.1 else gt_at (A ++ B) (j - x.2.2)) = gt_at B (j - (x.2.2 + gt_tot A))
    rw [if_neg (by omega), ih _ (by omega), Nat.sub_sub]
end
section
/-! the questions to the tree, walked -/
section gxq
variable {W : gx_W} {rt fr dp : Int32} {G : Nat → gx_C} {pa : Nat → Int32}
theorem gx_ne0 {i : Nat} (h : 0 < i ∧ i < 41) : ¬ nI i = 0 := nI_ne0 h.1 (by omega)
theorem gx_16 {s : Nat} (h : s < 16) : ¬ (16 : Int32) ≤ nI s := nI_ge (b := 16) h (by decide)
theorem gx_rowsB {post : Int32 → Prop} {q : Nat} (z : G 0 = gx_z) (hq : q < 2 ^ 40) : ∀ (t : gt_T) (n st acc : Nat), gx_ok G t → gt_so (gt_il t) → (∀ x ∈ gt_il t, x.2.1 < 34359738368) → gt_hg t + st ≤ 16 → gt_hg t < n →
    post (nI (acc + gt_rb q (gt_il t))) → wX_rowsBelow_11 post (lN q) rt fr dp W.1 W.2.1 W.2.2.1 W.2.2.2.1 W.2.2.2.2.1 (fun qq => (G qq).1) (fun qq => (G qq).2.1) (fun qq => (G qq).2.2.1) (fun qq => (G qq).2.2.2.1) (fun qq => (G qq).2.2.2.2.1) (fun qq => (G qq).2.2.2.2.2.1) (fun qq => (G qq).2.2.2.2.2.2.1) (fun qq => (G qq).2.2.2.2.2.2.2) pa W.2.2.2.2.2.1 W.2.2.2.2.2.2.1 W.2.2.2.2.2.2.2.1 W.2.2.2.2.2.2.2.2.1 W.2.2.2.2.2.2.2.2.2 n (nI acc) (nI (gt_rp t)) (nI st) := by
  intro t
  induction t with
  | leaf =>
    intro n st acc ok so pb hs hn K
    obtain ⟨n, rfl⟩ : ∃ a, n = a + 1 := ⟨n - 1, by omega⟩
    exact br_c (fun _ => K) (fun _ => br_t rfl K)
  | inner m i p l r ihl ihr =>
    intro n st acc ok so pb hs hn K
    obtain ⟨n, rfl⟩ : ∃ a, n = a + 1 := ⟨n - 1, by omega⟩
    obtain ⟨hi, hG, hl, hr⟩ := ok
    have eP : (G (nI i).toNatClampNeg).1 = lN p := by rw [ga_cl hi.2, hG]; rfl
    have eM : (G (nI i).toNatClampNeg).2.1 = nI m := by rw [ga_cl hi.2, hG]; rfl
    have eL : (G (nI i).toNatClampNeg).2.2.1 = nI (gt_rp l) := by rw [ga_cl hi.2, hG]; rfl
    have eR : (G (nI i).toNatClampNeg).2.2.2.1 = nI (gt_rp r) := by rw [ga_cl hi.2, hG]; rfl
    have hp : p < 34359738368 := pb _ gt_in_r
    rw [gt_hg_i] at hs hn
    obtain ⟨sl, sr, _⟩ := gt_so_i so
    have v := ga_in hi.2
    refine br_f (gx_16 (by omega)) (br_f (gx_ne0 hi) ⟨v, ?_⟩)
    by_cases c : q ≤ p
    · refine br_t (by show lN q ≤ (G (nI i).toNatClampNeg).1; rw [eP]; exact (pk_lLE (by omega) (by omega)).mpr c) ⟨v, nm_r eL (nm_r (nI_1 st) ?_)⟩
      refine ihl n (st + 1) acc hl sl (fun x hx => pb x (List.mem_append_left _ hx)) (by omega) (by omega) ?_
      rw [gt_il_i, gt_rb_lo so c] at K
      exact K
    · refine br_f (by show ¬ lN q ≤ (G (nI i).toNatClampNeg).1; rw [eP]; exact fun e => c ((pk_lLE (by omega) (by omega)).mp e)) ⟨v, ?_, v, nm_r (e' := nI (acc + (gt_tot (gt_il l) + m))) ?_ ⟨v, nm_r eR (nm_r (nI_1 st) ?_)⟩⟩
      · show vp_in (G (nI i).toNatClampNeg).2.2.1 41
        rw [eL]; exact ga_in (gx_rp41 hl)
      · show nI acc + ((G ((G (nI i).toNatClampNeg).2.2.1).toNatClampNeg).2.2.2.2.2.1 + (G (nI i).toNatClampNeg).2.1) = _
        rw [eL, eM, ga_cl (gx_rp41 hl), gx_r z hl, nI_add, nI_add]
      · refine ihr n (st + 1) _ hr sr (fun x hx => pb x (List.mem_append_right _ (List.mem_cons_of_mem _ hx))) (by omega) (by omega) ?_
        rw [gt_il_i, gt_rb_hi so (by omega)] at K
        rw [Nat.add_assoc]
        exact K
theorem gx_kindsB {post : Int32 → Prop} {q : Nat} (z : G 0 = gx_z) (hq : q < 2 ^ 40) : ∀ (t : gt_T) (n st acc : Nat), gx_ok G t → gt_so (gt_il t) → (∀ x ∈ gt_il t, x.2.1 < 34359738368) → gt_hg t + st ≤ 16 → gt_hg t < n →
    post (nI (acc + gt_kb q (gt_il t))) → wX_kindsBelow_11 post (lN q) rt fr dp W.1 W.2.1 W.2.2.1 W.2.2.2.1 W.2.2.2.2.1 (fun qq => (G qq).1) (fun qq => (G qq).2.1) (fun qq => (G qq).2.2.1) (fun qq => (G qq).2.2.2.1) (fun qq => (G qq).2.2.2.2.1) (fun qq => (G qq).2.2.2.2.2.1) (fun qq => (G qq).2.2.2.2.2.2.1) (fun qq => (G qq).2.2.2.2.2.2.2) pa W.2.2.2.2.2.1 W.2.2.2.2.2.2.1 W.2.2.2.2.2.2.2.1 W.2.2.2.2.2.2.2.2.1 W.2.2.2.2.2.2.2.2.2 n (nI acc) (nI (gt_rp t)) (nI st) := by
  intro t
  induction t with
  | leaf =>
    intro n st acc ok so pb hs hn K
    obtain ⟨n, rfl⟩ : ∃ a, n = a + 1 := ⟨n - 1, by omega⟩
    exact br_c (fun _ => K) (fun _ => br_t rfl K)
  | inner m i p l r ihl ihr =>
    intro n st acc ok so pb hs hn K
    obtain ⟨n, rfl⟩ : ∃ a, n = a + 1 := ⟨n - 1, by omega⟩
    obtain ⟨hi, hG, hl, hr⟩ := ok
    have eP : (G (nI i).toNatClampNeg).1 = lN p := by rw [ga_cl hi.2, hG]; rfl
    have eL : (G (nI i).toNatClampNeg).2.2.1 = nI (gt_rp l) := by rw [ga_cl hi.2, hG]; rfl
    have eR : (G (nI i).toNatClampNeg).2.2.2.1 = nI (gt_rp r) := by rw [ga_cl hi.2, hG]; rfl
    have hp : p < 34359738368 := pb _ gt_in_r
    rw [gt_hg_i] at hs hn
    obtain ⟨sl, sr, _⟩ := gt_so_i so
    have v := ga_in hi.2
    refine br_f (gx_16 (by omega)) (br_f (gx_ne0 hi) ⟨v, ?_⟩)
    by_cases c : q ≤ p
    · refine br_t (by show lN q ≤ (G (nI i).toNatClampNeg).1; rw [eP]; exact (pk_lLE (by omega) (by omega)).mpr c) ⟨v, nm_r eL (nm_r (nI_1 st) ?_)⟩
      refine ihl n (st + 1) acc hl sl (fun x hx => pb x (List.mem_append_left _ hx)) (by omega) (by omega) ?_
      rw [gt_il_i, gt_kb_lo so c] at K
      exact K
    · refine br_f (by show ¬ lN q ≤ (G (nI i).toNatClampNeg).1; rw [eP]; exact fun e => c ((pk_lLE (by omega) (by omega)).mp e)) ⟨v, ?_, nm_r (e' := nI (acc + ((gt_il l).length + 1))) ?_ ⟨v, nm_r eR (nm_r (nI_1 st) ?_)⟩⟩
      · show vp_in (G (nI i).toNatClampNeg).2.2.1 41
        rw [eL]; exact ga_in (gx_rp41 hl)
      · show nI acc + ((G ((G (nI i).toNatClampNeg).2.2.1).toNatClampNeg).2.2.2.2.2.2.1 + 1) = _
        rw [eL, ga_cl (gx_rp41 hl), gx_k z hl, nI_1, nI_add]
      · refine ihr n (st + 1) _ hr sr (fun x hx => pb x (List.mem_append_right _ (List.mem_cons_of_mem _ hx))) (by omega) (by omega) ?_
        rw [gt_il_i, gt_kb_hi so (by omega)] at K
        rw [Nat.add_assoc]
        exact K
theorem gx_sumB {post : Int32 → Prop} {q : Nat} (z : G 0 = gx_z) (hq : q < 2 ^ 40) : ∀ (t : gt_T) (n st : Nat) (acc : Int32), gx_ok G t → gt_so (gt_il t) → (∀ x ∈ gt_il t, x.2.1 < 34359738368) → gt_hg t + st ≤ 16 → gt_hg t < n →
    post (acc + gt_sb q (gt_il t)) → wX_sumBelow_11 post (lN q) rt fr dp W.1 W.2.1 W.2.2.1 W.2.2.2.1 W.2.2.2.2.1 (fun qq => (G qq).1) (fun qq => (G qq).2.1) (fun qq => (G qq).2.2.1) (fun qq => (G qq).2.2.2.1) (fun qq => (G qq).2.2.2.2.1) (fun qq => (G qq).2.2.2.2.2.1) (fun qq => (G qq).2.2.2.2.2.2.1) (fun qq => (G qq).2.2.2.2.2.2.2) pa W.2.2.2.2.2.1 W.2.2.2.2.2.2.1 W.2.2.2.2.2.2.2.1 W.2.2.2.2.2.2.2.2.1 W.2.2.2.2.2.2.2.2.2 n acc (nI (gt_rp t)) (nI st) := by
  intro t
  induction t with
  | leaf =>
    intro n st acc ok so pb hs hn K
    obtain ⟨n, rfl⟩ : ∃ a, n = a + 1 := ⟨n - 1, by omega⟩
    have e : acc + gt_sb q (gt_il (.leaf : gt_T)) = acc := Int32.add_zero acc
    rw [e] at K
    exact br_c (fun _ => K) (fun _ => br_t rfl K)
  | inner m i p l r ihl ihr =>
    intro n st acc ok so pb hs hn K
    obtain ⟨n, rfl⟩ : ∃ a, n = a + 1 := ⟨n - 1, by omega⟩
    obtain ⟨hi, hG, hl, hr⟩ := ok
    have eP : (G (nI i).toNatClampNeg).1 = lN p := by rw [ga_cl hi.2, hG]; rfl
    have eM : (G (nI i).toNatClampNeg).2.1 = nI m := by rw [ga_cl hi.2, hG]; rfl
    have eL : (G (nI i).toNatClampNeg).2.2.1 = nI (gt_rp l) := by rw [ga_cl hi.2, hG]; rfl
    have eR : (G (nI i).toNatClampNeg).2.2.2.1 = nI (gt_rp r) := by rw [ga_cl hi.2, hG]; rfl
    have hp : p < 34359738368 := pb _ gt_in_r
    rw [gt_hg_i] at hs hn
    obtain ⟨sl, sr, _⟩ := gt_so_i so
    have v := ga_in hi.2
    refine br_f (gx_16 (by omega)) (br_f (gx_ne0 hi) ⟨v, ?_⟩)
    by_cases c : q ≤ p
    · refine br_t (by show lN q ≤ (G (nI i).toNatClampNeg).1; rw [eP]; exact (pk_lLE (by omega) (by omega)).mpr c) ⟨v, nm_r eL (nm_r (nI_1 st) ?_)⟩
      refine ihl n (st + 1) acc hl sl (fun x hx => pb x (List.mem_append_left _ hx)) (by omega) (by omega) ?_
      rw [gt_il_i, gt_sb_lo so c] at K
      exact K
    · refine br_f (by show ¬ lN q ≤ (G (nI i).toNatClampNeg).1; rw [eP]; exact fun e => c ((pk_lLE (by omega) (by omega)).mp e)) ⟨v, ?_, v, v, ?_⟩
      · show vp_in (G (nI i).toNatClampNeg).2.2.1 41
        rw [eL]; exact ga_in (gx_rp41 hl)
      · unfold wpX_valueOf
        refine nm_r (e' := acc + (gt_sm (gt_il l) + nI m * ga_vl p)) ?_ ⟨v, nm_r eR (nm_r (nI_1 st) ?_)⟩
        · show acc + ((G ((G (nI i).toNatClampNeg).2.2.1).toNatClampNeg).2.2.2.2.2.2.2 + (G (nI i).toNatClampNeg).2.1 * (((G (nI i).toNatClampNeg).1 &&& 4294967295) - 2147483648).toInt32) = _
          rw [eL, eM, eP, ga_cl (gx_rp41 hl), gx_m z hl]
          rfl
        · refine ihr n (st + 1) _ hr sr (fun x hx => pb x (List.mem_append_right _ (List.mem_cons_of_mem _ hx))) (by omega) (by omega) ?_
          rw [gt_il_i, gt_sb_hi so (by omega)] at K
          rw [Int32.add_assoc]
          exact K
theorem gx_rowAt10 {post : Int64 → Prop} (z : G 0 = gx_z) : ∀ (t : gt_T) (n st j : Nat), gx_ok G t → gt_hg t + st ≤ 16 → gt_hg t < n → gt_tot (gt_il t) < 1000 → j < gt_tot (gt_il t) →
    post (lN (gt_at (gt_il t) j)) → wX_rowAt_10 post rt fr dp W.1 W.2.1 W.2.2.1 W.2.2.2.1 W.2.2.2.2.1 (fun qq => (G qq).1) (fun qq => (G qq).2.1) (fun qq => (G qq).2.2.1) (fun qq => (G qq).2.2.2.1) (fun qq => (G qq).2.2.2.2.1) (fun qq => (G qq).2.2.2.2.2.1) (fun qq => (G qq).2.2.2.2.2.2.1) (fun qq => (G qq).2.2.2.2.2.2.2) pa W.2.2.2.2.2.1 W.2.2.2.2.2.2.1 W.2.2.2.2.2.2.2.1 W.2.2.2.2.2.2.2.2.1 W.2.2.2.2.2.2.2.2.2 n (nI j) (nI (gt_rp t)) (nI st) := by
  intro t
  induction t with
  | leaf => intro n st j ok hs hn ht hj K; exact absurd hj (Nat.not_lt_zero _)
  | inner m i p l r ihl ihr =>
    intro n st j ok hs hn ht hj K
    obtain ⟨n, rfl⟩ : ∃ a, n = a + 1 := ⟨n - 1, by omega⟩
    obtain ⟨hi, hG, hl, hr⟩ := ok
    have eP : (G (nI i).toNatClampNeg).1 = lN p := by rw [ga_cl hi.2, hG]; rfl
    have eM : (G (nI i).toNatClampNeg).2.1 = nI m := by rw [ga_cl hi.2, hG]; rfl
    have eL : (G (nI i).toNatClampNeg).2.2.1 = nI (gt_rp l) := by rw [ga_cl hi.2, hG]; rfl
    have eR : (G (nI i).toNatClampNeg).2.2.2.1 = nI (gt_rp r) := by rw [ga_cl hi.2, hG]; rfl
    rw [gt_hg_i] at hs hn
    have te : gt_tot (gt_il (.inner m i p l r)) = gt_tot (gt_il l) + (m + gt_tot (gt_il r)) := by rw [gt_il_i, gt_tot_ap]; rfl
    rw [te] at ht hj
    have v := ga_in hi.2
    refine br_f (gx_16 (by omega)) (br_f (gx_ne0 hi) ⟨v, ?_, nm_r (e' := nI (gt_tot (gt_il l))) ?_ ?_⟩)
    · show vp_in (G (nI i).toNatClampNeg).2.2.1 41
      rw [eL]; exact ga_in (gx_rp41 hl)
    · show (G ((G (nI i).toNatClampNeg).2.2.1).toNatClampNeg).2.2.2.2.2.1 = _
      rw [eL, ga_cl (gx_rp41 hl), gx_r z hl]
    · refine pk_le (gt_tot (gt_il l)) j (fun c => ⟨v, ?_⟩) (fun c => ⟨v, nm_r eL (nm_r (nI_1 st) ?_)⟩) rfl rfl (by omega) (by omega)
      · have e2 : nI (gt_tot (gt_il l)) + (G (nI i).toNatClampNeg).2.1 = nI (gt_tot (gt_il l) + m) := by rw [eM, nI_add]
        refine pk_le (gt_tot (gt_il l) + m) j (fun c2 => ⟨v, nm_r (e' := nI (j - (gt_tot (gt_il l) + m))) ?_ ⟨v, nm_r eR (nm_r (nI_1 st) ?_)⟩⟩) (fun c2 => ⟨v, ?_⟩) e2 rfl (by omega) (by omega)
        · show nI j - (nI (gt_tot (gt_il l)) + (G (nI i).toNatClampNeg).2.1) = _
          rw [e2, pk_sub c2]
        · refine ihr n (st + 1) _ hr (by omega) (by omega) (by omega) (by omega) ?_
          rw [gt_il_i, gt_at_hi _ _ j (by omega)] at K
          have e3 : gt_at ((i, p, m) :: gt_il r) (j - gt_tot (gt_il l)) = gt_at (gt_il r) (j - gt_tot (gt_il l) - m) := if_neg (by show ¬ _ < m; omega)
          rw [e3, Nat.sub_sub] at K
          exact K
        · show post (G (nI i).toNatClampNeg).1
          rw [eP]
          rw [gt_il_i, gt_at_hi _ _ j (by omega)] at K
          have e3 : gt_at ((i, p, m) :: gt_il r) (j - gt_tot (gt_il l)) = p := if_pos (by show _ < m; omega)
          rw [e3] at K
          exact K
      · refine ihl n (st + 1) j hl (by omega) (by omega) (by omega) c ?_
        rw [gt_il_i, gt_at_lo _ _ j c] at K
        exact K
theorem gx_timesOf8 {post : Int32 → Prop} {q : Nat} (hq : q < 2 ^ 40) : ∀ (t : gt_T) (n st : Nat), gx_ok G t → gt_so (gt_il t) → (∀ x ∈ gt_il t, x.2.1 < 34359738368) → gt_hg t + st ≤ 16 → gt_hg t < n →
    post (nI (gt_tm q (gt_il t))) → wX_timesOf_8 post (lN q) rt fr dp W.1 W.2.1 W.2.2.1 W.2.2.2.1 W.2.2.2.2.1 (fun qq => (G qq).1) (fun qq => (G qq).2.1) (fun qq => (G qq).2.2.1) (fun qq => (G qq).2.2.2.1) (fun qq => (G qq).2.2.2.2.1) (fun qq => (G qq).2.2.2.2.2.1) (fun qq => (G qq).2.2.2.2.2.2.1) (fun qq => (G qq).2.2.2.2.2.2.2) pa W.2.2.2.2.2.1 W.2.2.2.2.2.2.1 W.2.2.2.2.2.2.2.1 W.2.2.2.2.2.2.2.2.1 W.2.2.2.2.2.2.2.2.2 n (nI (gt_rp t)) (nI st) := by
  intro t
  induction t with
  | leaf =>
    intro n st ok so pb hs hn K
    obtain ⟨n, rfl⟩ : ∃ a, n = a + 1 := ⟨n - 1, by omega⟩
    exact br_c (fun _ => K) (fun _ => br_t rfl K)
  | inner m i p l r ihl ihr =>
    intro n st ok so pb hs hn K
    obtain ⟨n, rfl⟩ : ∃ a, n = a + 1 := ⟨n - 1, by omega⟩
    obtain ⟨hi, hG, hl, hr⟩ := ok
    have eP : (G (nI i).toNatClampNeg).1 = lN p := by rw [ga_cl hi.2, hG]; rfl
    have eM : (G (nI i).toNatClampNeg).2.1 = nI m := by rw [ga_cl hi.2, hG]; rfl
    have eL : (G (nI i).toNatClampNeg).2.2.1 = nI (gt_rp l) := by rw [ga_cl hi.2, hG]; rfl
    have eR : (G (nI i).toNatClampNeg).2.2.2.1 = nI (gt_rp r) := by rw [ga_cl hi.2, hG]; rfl
    have hp : p < 34359738368 := pb _ gt_in_r
    rw [gt_hg_i] at hs hn
    obtain ⟨sl, sr, _⟩ := gt_so_i so
    have v := ga_in hi.2
    refine br_f (gx_16 (by omega)) (br_f (gx_ne0 hi) ⟨v, ?_⟩)
    by_cases c0 : p = q
    · refine br_t (by show (G (nI i).toNatClampNeg).1 = lN q; rw [eP, c0]) ⟨v, ?_⟩
      show post (G (nI i).toNatClampNeg).2.1
      rw [gt_il_i, gt_tm_eq so c0] at K
      rw [eM]; exact K
    · refine br_f (by show ¬ (G (nI i).toNatClampNeg).1 = lN q; rw [eP]; exact fun e => c0 ((pk_lEQ (by omega) (by omega)).mp e)) ⟨v, ?_⟩
      by_cases c : p ≤ q
      · refine br_t (by show (G (nI i).toNatClampNeg).1 ≤ lN q; rw [eP]; exact (pk_lLE (by omega) (by omega)).mpr c) ⟨v, nm_r eR (nm_r (nI_1 st) ?_)⟩
        refine ihr n (st + 1) hr sr (fun x hx => pb x (List.mem_append_right _ (List.mem_cons_of_mem _ hx))) (by omega) (by omega) ?_
        rw [gt_il_i, gt_tm_hi so (by omega)] at K
        exact K
      · refine br_f (by show ¬ (G (nI i).toNatClampNeg).1 ≤ lN q; rw [eP]; exact fun e => c ((pk_lLE (by omega) (by omega)).mp e)) ⟨v, nm_r eL (nm_r (nI_1 st) ?_)⟩
        refine ihl n (st + 1) hl sl (fun x hx => pb x (List.mem_append_left _ hx)) (by omega) (by omega) ?_
        rw [gt_il_i, gt_tm_lo so (by omega)] at K
        exact K
/-! the tree as the calls find it -/
def gx_tr (G : Nat → gx_C) (t : gt_T) : Prop := G 0 = gx_z ∧ gx_ok G t ∧ gt_av t ∧ gt_so (gt_il t) ∧ (∀ x ∈ gt_il t, x.2.1 < 34359738368 ∧ 1 ≤ x.2.2) ∧ (gt_il t).length ≤ 41 ∧ gt_tot (gt_il t) < 1000
theorem gx_rowsBelow {post : Int32 → Prop} {t : gt_T} {q : Nat} (h : gx_tr G t) (hq : q < 2 ^ 40) (K : post (nI (gt_rb q (gt_il t)))) : wpX_rowsBelow post (gx_s W (nI (gt_rp t)) fr dp G pa) (lN q) :=
  ⟨17, gx_rowsB h.1 hq t 17 0 0 h.2.1 h.2.2.2.1 (fun x hx => (h.2.2.2.2.1 x hx).1) (by have := gt_av_15 h.2.2.1 h.2.2.2.2.2.1; omega) (by have := gt_av_15 h.2.2.1 h.2.2.2.2.2.1; omega) (by rw [Nat.zero_add]; exact K)⟩
theorem gx_kindsBelow {post : Int32 → Prop} {t : gt_T} {q : Nat} (h : gx_tr G t) (hq : q < 2 ^ 40) (K : post (nI (gt_kb q (gt_il t)))) : wpX_kindsBelow post (gx_s W (nI (gt_rp t)) fr dp G pa) (lN q) :=
  ⟨17, gx_kindsB h.1 hq t 17 0 0 h.2.1 h.2.2.2.1 (fun x hx => (h.2.2.2.2.1 x hx).1) (by have := gt_av_15 h.2.2.1 h.2.2.2.2.2.1; omega) (by have := gt_av_15 h.2.2.1 h.2.2.2.2.2.1; omega) (by rw [Nat.zero_add]; exact K)⟩
theorem gx_sumBelow {post : Int32 → Prop} {t : gt_T} {q : Nat} (h : gx_tr G t) (hq : q < 2 ^ 40) (K : post (gt_sb q (gt_il t))) : wpX_sumBelow post (gx_s W (nI (gt_rp t)) fr dp G pa) (lN q) :=
  ⟨17, gx_sumB h.1 hq t 17 0 0 h.2.1 h.2.2.2.1 (fun x hx => (h.2.2.2.2.1 x hx).1) (by have := gt_av_15 h.2.2.1 h.2.2.2.2.2.1; omega) (by have := gt_av_15 h.2.2.1 h.2.2.2.2.2.1; omega) (by rw [Int32.zero_add]; exact K)⟩
theorem gx_rowAt {post : Int64 → Prop} {t : gt_T} {j : Nat} (h : gx_tr G t) (hj : j < gt_tot (gt_il t)) (K : post (lN (gt_at (gt_il t) j))) : wpX_rowAt post (gx_s W (nI (gt_rp t)) fr dp G pa) (nI j) :=
  ⟨17, gx_rowAt10 h.1 t 17 0 j h.2.1 (by have := gt_av_15 h.2.2.1 h.2.2.2.2.2.1; omega) (by have := gt_av_15 h.2.2.1 h.2.2.2.2.2.1; omega) h.2.2.2.2.2.2 hj K⟩
theorem gx_timesOf {post : Int32 → Prop} {t : gt_T} {q : Nat} (h : gx_tr G t) (hq : q < 2 ^ 40) (K : post (nI (gt_tm q (gt_il t)))) : wpX_timesOf post (gx_s W (nI (gt_rp t)) fr dp G pa) (lN q) :=
  ⟨17, gx_timesOf8 hq t 17 0 h.2.1 h.2.2.2.1 (fun x hx => (h.2.2.2.2.1 x hx).1) (by have := gt_av_15 h.2.2.1 h.2.2.2.2.2.1; omega) (by have := gt_av_15 h.2.2.1 h.2.2.2.2.2.1; omega) K⟩
end gxq
end
section
/-! changing one entry of a list -/
theorem gt_pw_sub {R : gt_E → gt_E → Prop} {A B : List gt_E} {e e' : gt_E} (h : (A ++ e :: B).Pairwise R) (h1 : ∀ x ∈ A, R x e → R x e') (h2 : ∀ x ∈ B, R e x → R e' x) : (A ++ e' :: B).Pairwise R := by
  obtain ⟨a, b, c⟩ := List.pairwise_append.mp h
  obtain ⟨d, f⟩ := List.pairwise_cons.mp b
  refine List.pairwise_append.mpr ⟨a, List.pairwise_cons.mpr ⟨fun x hx => h2 x hx (d x hx), f⟩, fun x hx y hy => ?_⟩
  rcases List.mem_cons.mp hy with g | g
  · rw [g]; exact h1 x hx (c x hx e List.mem_cons_self)
  · exact c x hx y (List.mem_cons_of_mem _ g)
theorem gt_pw_ins {R : gt_E → gt_E → Prop} {A B : List gt_E} {e : gt_E} (h : (A ++ B).Pairwise R) (h1 : ∀ x ∈ A, R x e) (h2 : ∀ x ∈ B, R e x) : (A ++ e :: B).Pairwise R := by
  obtain ⟨a, b, c⟩ := List.pairwise_append.mp h
  refine List.pairwise_append.mpr ⟨a, List.pairwise_cons.mpr ⟨h2, b⟩, fun x hx y hy => ?_⟩
  rcases List.mem_cons.mp hy with g | g
  · rw [g]; exact h1 x hx
  · exact c x hx y g
theorem gt_pw_del {R : gt_E → gt_E → Prop} {A B : List gt_E} {e : gt_E} (h : (A ++ e :: B).Pairwise R) : (A ++ B).Pairwise R := by
  obtain ⟨a, b, c⟩ := List.pairwise_append.mp h
  obtain ⟨d, f⟩ := List.pairwise_cons.mp b
  exact List.pairwise_append.mpr ⟨a, f, fun x hx y hy => c x hx y (List.mem_cons_of_mem _ hy)⟩
/-! the free nodes -/
def gx_fl (G : Nat → gx_C) : List Nat → Prop
  | [] => True
  | f :: F => (G f).2.2.1 = nI (F.headD 0) ∧ gx_fl G F
theorem gx_fl_fr {G G' : Nat → gx_C} : ∀ F : List Nat, gx_fl G F → (∀ f ∈ F, G' f = G f) → gx_fl G' F := by
  intro F
  induction F with
  | nil => intro _ _; trivial
  | cons f F ih => intro h e; exact ⟨by rw [e f List.mem_cons_self]; exact h.1, ih h.2 (fun g hg => e g (List.mem_cons_of_mem _ hg))⟩
/-- the whole of the tree and the free nodes -/
def gx_inv (fr : Int32) (G : Nat → gx_C) (T : gt_T) (F : List Nat) : Prop :=
  G 0 = gx_z ∧ gx_ok G T ∧ gt_av T ∧ gt_so (gt_il T) ∧ (∀ x ∈ gt_il T, x.2.1 < 34359738368 ∧ 1 ≤ x.2.2) ∧ gt_tot (gt_il T) ≤ 40 ∧ gt_nd (gt_il T) ∧
  fr = nI (F.headD 0) ∧ gx_fl G F ∧ F.Nodup ∧ (∀ f ∈ F, (0 < f ∧ f < 41) ∧ ∀ x ∈ gt_il T, x.1 ≠ f) ∧ (gt_il T).length + F.length = 40
theorem gx_inv_tr {fr : Int32} {G : Nat → gx_C} {T : gt_T} {F : List Nat} (h : gx_inv fr G T F) : gx_tr G T := by
  obtain ⟨h1, h2, h3, h4, h5, h6, h7, h8, h9, h10, h11, h12⟩ := h
  exact ⟨h1, h2, h3, h4, h5, by omega, by omega⟩
theorem gt_len_tot : ∀ L : List gt_E, (∀ x ∈ L, 1 ≤ x.2.2) → L.length ≤ gt_tot L := by
  intro L
  induction L with
  | nil => intro _; exact Nat.le_refl 0
  | cons x L ih =>
    intro h
    have h1 := h x List.mem_cons_self
    have h2 := ih (fun y hy => h y (List.mem_cons_of_mem _ hy))
    show L.length + 1 ≤ x.2.2 + gt_tot L
    omega
/-! searching: the tree cut in a context and a subtree -/
def gx_se (G : Nat → gx_C) (pa : Nat → Int32) (L : List gt_E) (C : List gt_F) (t : gt_T) : Prop :=
  gx_cx G C (gt_rp t) ∧ gx_ok G t ∧ gx_pa pa C ∧ gt_pl C (gt_il t) = L ∧ gt_cb C (gt_hg t) ∧ gt_av t ∧ C.length + gt_hg t ≤ 15
theorem gx_pa_up {pa : Nat → Int32} {x : Int32} : ∀ (C : List gt_F) (k : Nat), C.length ≤ k → gx_pa pa C → gx_pa (upd pa k x) C := by
  intro C
  induction C with
  | nil => intro k _ _; trivial
  | cons f C ih =>
    intro k hk h
    have hk' : C.length + 1 ≤ k := hk
    exact ⟨by rw [pk_un (by omega)]; exact h.1, ih k (by omega) h.2⟩
theorem gx_se_l {G : Nat → gx_C} {pa : Nat → Int32} {L : List gt_E} {C : List gt_F} {m i p : Nat} {l r : gt_T} {pa' : Nat → Int32} (h : gx_se G pa L C (.inner m i p l r)) (e : pa' C.length = nI i) (hp : gx_pa pa' C) :
    gx_se G pa' L ((true, m, i, p, r) :: C) l := by
  obtain ⟨h1, h2, h3, h4, h5, h6, h7⟩ := h
  refine ⟨⟨h2.1, gx_lk_ok h2.2.1, h2.2.2.2, h1⟩, h2.2.2.1, ⟨e, hp⟩, h4, ⟨h6.1, h6.2.2, h5⟩, h6.2.1, ?_⟩
  rw [gt_hg_i] at h7
  show C.length + 1 + gt_hg l ≤ 15
  omega
theorem gx_se_r {G : Nat → gx_C} {pa : Nat → Int32} {L : List gt_E} {C : List gt_F} {m i p : Nat} {l r : gt_T} {pa' : Nat → Int32} (h : gx_se G pa L C (.inner m i p l r)) (e : pa' C.length = nI i) (hp : gx_pa pa' C) :
    gx_se G pa' L ((false, m, i, p, l) :: C) r := by
  obtain ⟨h1, h2, h3, h4, h5, h6, h7⟩ := h
  refine ⟨⟨h2.1, gx_lk_ok h2.2.1, h2.2.2.1, h1⟩, h2.2.2.2, ⟨e, hp⟩, h4, ⟨⟨h6.1.2, h6.1.1⟩, h6.2.1, ?_⟩, h6.2.2, ?_⟩
  · rw [Nat.max_comm]; exact h5
  · rw [gt_hg_i] at h7
    show C.length + 1 + gt_hg r ≤ 15
    omega
/-- what lies left of the hole is below q, what lies right of it above -/
def gt_ab (q : Nat) (C : List gt_F) : Prop := (∀ x ∈ gt_A C, x.2.1 < q) ∧ (∀ x ∈ gt_B C, q < x.2.1)
theorem gt_so_pl {C : List gt_F} {L : List gt_E} (h : gt_so (gt_pl C L)) : gt_so L := by
  rw [gt_pl_ap] at h
  exact (List.pairwise_append.mp (List.pairwise_append.mp h).2.1).1
theorem gt_ab_l {q m i p : Nat} {l r : gt_T} {C : List gt_F} (h : gt_ab q C) (so : gt_so (gt_pl C (gt_il (.inner m i p l r)))) (c : q < p) : gt_ab q ((true, m, i, p, r) :: C) := by
  obtain ⟨_, _, _, s, _⟩ := gt_so_i (gt_so_pl so)
  refine ⟨h.1, fun x hx => ?_⟩
  rcases List.mem_cons.mp hx with a | a
  · rw [a]; exact c
  · rcases List.mem_append.mp a with b | b
    · have := s x b; dsimp only at this; omega
    · exact h.2 x b
theorem gt_ab_r {q m i p : Nat} {l r : gt_T} {C : List gt_F} (h : gt_ab q C) (so : gt_so (gt_pl C (gt_il (.inner m i p l r)))) (c : p < q) : gt_ab q ((false, m, i, p, l) :: C) := by
  obtain ⟨_, _, s, _, _⟩ := gt_so_i (gt_so_pl so)
  refine ⟨fun x hx => ?_, h.2⟩
  rcases List.mem_append.mp hx with a | a
  · exact h.1 x a
  · rcases List.mem_append.mp a with b | b
    · have := s x b; dsimp only at this; omega
    · rw [List.mem_singleton.mp b]; exact c
section gxs
variable {W : gx_W} {rt fr dp : Int32} {G : Nat → gx_C} {pa : Nat → Int32}
theorem gx_newNode {post : Int32 → SX → Prop} {f f2 q : Nat} (z : G 0 = gx_z) (hf : 0 < f ∧ f < 41) (h2 : (G f).2.2.1 = nI f2)
    (K : ∀ G' : Nat → gx_C, G' f = gt_cl 1 q .leaf .leaf → (∀ x, x ≠ f → G' x = G x) → post (nI f) (gx_s W rt (nI f2) dp G' pa)) : wpX_newNode post (gx_s W rt (nI f) dp G pa) (lN q) := by
  unfold wpX_newNode
  dsimp only
  rw [ga_cl hf.2]
  have v := ga_in hf.2
  refine ⟨v, nm_r h2 ⟨v, nm_e ⟨v, nm_e ⟨v, nm_e ⟨v, nm_e ?_⟩⟩⟩⟩⟩
  refine gx_to (G := gx_set G f (lN q, 1, 0, 0, (G f).2.2.2.2)) (fun u => wpX_update _ u (nI f)) ?_ (gx_wL (fun c => c.1) rfl) (gx_w1 (fun c => c.2.1) rfl) (gx_w1 (fun c => c.2.2.1) rfl) (gx_w1 (fun c => c.2.2.2.1) rfl) (gx_k1 (fun c => c.2.2.2.2.1) rfl) (gx_k1 (fun c => c.2.2.2.2.2.1) rfl) (gx_k1 (fun c => c.2.2.2.2.2.2.1) rfl) (gx_k1 (fun c => c.2.2.2.2.2.2.2) rfl)
  refine gx_update (m := 1) (p := q) (l := .leaf) (r := .leaf) (by rw [gx_set_n (by omega), z]) hf.2 (by rw [gx_set_s]; exact ⟨rfl, rfl, rfl, rfl⟩) trivial trivial (by show 0 < 100; omega) (by show 0 < 100; omega) ?_
  dsimp only
  exact K _ gx_set_s (fun x hx => by rw [gx_set_n hx, gx_set_n hx])
/-! add: the search -/
theorem gx_add16 {post : SX → Prop} {q : Nat} {L : List gt_E} (hq : q < 34359738368) (so : gt_so L) (pb : ∀ x ∈ L, x.2.1 < 34359738368)
    (KN : ∀ (C : List gt_F) (pa : Nat → Int32), gx_se G pa L C .leaf → gt_ab q C → wX_add_93 post (lN q) 0 0 rt fr (nI C.length) W.1 W.2.1 W.2.2.1 W.2.2.2.1 W.2.2.2.2.1 (fun qq => (G qq).1) (fun qq => (G qq).2.1) (fun qq => (G qq).2.2.1) (fun qq => (G qq).2.2.2.1) (fun qq => (G qq).2.2.2.2.1) (fun qq => (G qq).2.2.2.2.2.1) (fun qq => (G qq).2.2.2.2.2.2.1) (fun qq => (G qq).2.2.2.2.2.2.2) pa W.2.2.2.2.2.1 W.2.2.2.2.2.2.1 W.2.2.2.2.2.2.2.1 W.2.2.2.2.2.2.2.2.1 W.2.2.2.2.2.2.2.2.2)
    (KF : ∀ (C : List gt_F) (pa : Nat → Int32) (m i : Nat) (l r : gt_T), gx_se G pa L C (.inner m i q l r) → wX_add_93 post (lN q) (nI i) 1 rt fr (nI (C.length + 1)) W.1 W.2.1 W.2.2.1 W.2.2.2.1 W.2.2.2.2.1 (fun qq => (G qq).1) (fun qq => (G qq).2.1) (fun qq => (G qq).2.2.1) (fun qq => (G qq).2.2.2.1) (fun qq => (G qq).2.2.2.2.1) (fun qq => (G qq).2.2.2.2.2.1) (fun qq => (G qq).2.2.2.2.2.2.1) (fun qq => (G qq).2.2.2.2.2.2.2) (upd pa C.length (nI i)) W.2.2.2.2.2.1 W.2.2.2.2.2.2.1 W.2.2.2.2.2.2.2.1 W.2.2.2.2.2.2.2.2.1 W.2.2.2.2.2.2.2.2.2) :
    ∀ (t : gt_T) (C : List gt_F) (n : Nat) (pa : Nat → Int32), gx_se G pa L C t → gt_ab q C → gt_hg t < n → wX_add_16 post (lN q) n (nI (gt_rp t)) 0 (nI C.length) rt fr (nI C.length) W.1 W.2.1 W.2.2.1 W.2.2.2.1 W.2.2.2.2.1 (fun qq => (G qq).1) (fun qq => (G qq).2.1) (fun qq => (G qq).2.2.1) (fun qq => (G qq).2.2.2.1) (fun qq => (G qq).2.2.2.2.1) (fun qq => (G qq).2.2.2.2.2.1) (fun qq => (G qq).2.2.2.2.2.2.1) (fun qq => (G qq).2.2.2.2.2.2.2) pa W.2.2.2.2.2.1 W.2.2.2.2.2.2.1 W.2.2.2.2.2.2.2.1 W.2.2.2.2.2.2.2.2.1 W.2.2.2.2.2.2.2.2.2 := by
  intro t
  induction t with
  | leaf =>
    intro C n pa se ab hn
    obtain ⟨n, rfl⟩ : ∃ a, n = a + 1 := ⟨n - 1, by omega⟩
    exact br_c (fun _ => KN C pa se ab) (fun _ => br_t rfl (KN C pa se ab))
  | inner m i p l r ihl ihr =>
    intro C n pa se ab hn
    obtain ⟨n, rfl⟩ : ∃ a, n = a + 1 := ⟨n - 1, by omega⟩
    rw [gt_hg_i] at hn
    have hi := se.2.1.1
    have hG := se.2.1.2.1
    have hc : C.length + 1 ≤ 15 := by have := se.2.2.2.2.2.2; rw [gt_hg_i] at this; omega
    have eP : (G (nI i).toNatClampNeg).1 = lN p := by rw [ga_cl hi.2, hG]; rfl
    have eL : (G (nI i).toNatClampNeg).2.2.1 = nI (gt_rp l) := by rw [ga_cl hi.2, hG]; rfl
    have eR : (G (nI i).toNatClampNeg).2.2.2.1 = nI (gt_rp r) := by rw [ga_cl hi.2, hG]; rfl
    have v := ga_in hi.2
    have hp : p < 34359738368 := pb (i, p, m) (by rw [← se.2.2.2.1]; exact gt_pl_mem gt_in_r)
    have so' : gt_so (gt_pl C (gt_il (.inner m i p l r))) := by rw [se.2.2.2.1]; exact so
    refine br_f (gx_16 (by omega)) (br_f (gx_ne0 hi) (br_t rfl ?_))
    refine gx_step (W := W) (rt := rt) (fr := fr) (G := G) (pa := pa) (by omega) ?_
    dsimp only
    refine ⟨v, ?_⟩
    by_cases c0 : p = q
    · subst c0
      refine br_t eP ?_
      unfold wX_add_53
      refine br_f (by decide) (nm_r (nI_1 _) ?_)
      obtain ⟨n, rfl⟩ : ∃ a, n = a + 1 := ⟨n - 1, by omega⟩
      have h := KF C pa m i l r se
      exact br_f (gx_16 (by omega)) (br_f (gx_ne0 hi) (br_f (by decide) h))
    · refine br_f (by show ¬ (G (nI i).toNatClampNeg).1 = lN q; rw [eP]; exact fun e => c0 ((pk_lEQ (by omega) (by omega)).mp e)) ?_
      unfold wX_add_53
      refine br_t rfl ⟨v, ?_⟩
      by_cases c : p ≤ q
      · refine br_t (by show (G (nI i).toNatClampNeg).1 ≤ lN q; rw [eP]; exact (pk_lLE (by omega) (by omega)).mpr c) ⟨v, nm_r eR (nm_r (nI_1 _) ?_)⟩
        exact ihr _ n _ (gx_se_r se pk_us (gx_pa_up C _ (Nat.le_refl _) se.2.2.1)) (gt_ab_r ab so' (by omega)) (by omega)
      · refine br_f (by show ¬ (G (nI i).toNatClampNeg).1 ≤ lN q; rw [eP]; exact fun e => c ((pk_lLE (by omega) (by omega)).mp e)) ⟨v, nm_r eL (nm_r (nI_1 _) ?_)⟩
        exact ihl _ n _ (gx_se_l se pk_us (gx_pa_up C _ (Nat.le_refl _) se.2.2.1)) (gt_ab_l ab so' (by omega)) (by omega)
end gxs
end
section
/-! the rows of a list of entries, each as often as it counts -/
def gt_ft (L : List gt_E) : List Nat := L.flatMap (fun x => List.replicate x.2.2 x.2.1)
theorem gt_ft_ap (A B : List gt_E) : gt_ft (A ++ B) = gt_ft A ++ gt_ft B := by unfold gt_ft; rw [List.flatMap_append]
theorem gt_ft_c (e : gt_E) (B : List gt_E) : gt_ft (e :: B) = List.replicate e.2.2 e.2.1 ++ gt_ft B := by unfold gt_ft; rw [List.flatMap_cons]
theorem gt_ft_up (A B : List gt_E) (i q m : Nat) : List.Perm (gt_ft (A ++ (i, q, m + 1) :: B)) (q :: gt_ft (A ++ (i, q, m) :: B)) := by
  rw [gt_ft_ap, gt_ft_ap, gt_ft_c, gt_ft_c]
  show List.Perm (gt_ft A ++ (List.replicate (m + 1) q ++ gt_ft B)) (q :: (gt_ft A ++ (List.replicate m q ++ gt_ft B)))
  rw [List.replicate_succ, List.cons_append]
  exact List.perm_middle
theorem gt_ft_new (A B : List gt_E) (i q : Nat) : List.Perm (gt_ft (A ++ (i, q, 1) :: B)) (q :: gt_ft (A ++ B)) := by
  rw [gt_ft_ap, gt_ft_ap, gt_ft_c]
  show List.Perm (gt_ft A ++ (List.replicate 1 q ++ gt_ft B)) (q :: (gt_ft A ++ gt_ft B))
  exact List.perm_middle
theorem gt_ft_mv (A B : List gt_E) (i q o p m : Nat) : List.Perm (gt_ft (A ++ (i, q, 1) :: (o, p, m) :: B)) (q :: gt_ft (A ++ (i, p, m) :: B)) := by
  have h := gt_ft_new A ((o, p, m) :: B) i q
  have e : gt_ft (A ++ (o, p, m) :: B) = gt_ft (A ++ (i, p, m) :: B) := by
    rw [gt_ft_ap, gt_ft_ap, gt_ft_c, gt_ft_c]
  rw [e] at h
  exact h
theorem gt_pl_mid (C : List gt_F) (X Y : List gt_E) (e : gt_E) : gt_pl C (X ++ e :: Y) = (gt_A C ++ X) ++ e :: (Y ++ gt_B C) := by
  rw [gt_pl_ap]; simp only [List.append_assoc, List.cons_append]
theorem gt_pl_one (C : List gt_F) (e : gt_E) : gt_pl C [e] = gt_A C ++ e :: gt_B C := by
  rw [gt_pl_ap]; rfl
theorem gt_pl_nil (C : List gt_F) : gt_pl C [] = gt_A C ++ gt_B C := by
  rw [gt_pl_ap]; rfl
/-! the invariant after a change -/
theorem gx_inv_add {fr : Int32} {G G' : Nat → gx_C} {T T' : gt_T} {f q : Nat} {F : List Nat} {A B : List gt_E} (I : gx_inv fr G T (f :: F)) (eT : gt_il T = A ++ B) (eT' : gt_il T' = A ++ (f, q, 1) :: B)
    (ha : ∀ x ∈ A, x.2.1 < q) (hb : ∀ x ∈ B, q < x.2.1) (hq : q < 34359738368) (ht : gt_tot (gt_il T) < 40) (z : G' 0 = gx_z) (ok : gx_ok G' T') (av : gt_av T')
    (frm : ∀ x, (∀ e ∈ gt_il T', e.1 ≠ x) → G' x = G x) : gx_inv (nI (F.headD 0)) G' T' F := by
  obtain ⟨h1, h2, h3, h4, h5, h6, h7, h8, h9, h10, h11, h12⟩ := I
  rw [eT] at h4 h5 h6 h7 h11 h12 ht
  have hf := h11 f List.mem_cons_self
  obtain ⟨n1, n2⟩ := List.nodup_cons.mp h10
  have nf : ∀ g ∈ F, ∀ e ∈ gt_il T', e.1 ≠ g := by
    intro g hg e he
    rw [eT'] at he
    rcases List.mem_append.mp he with a | a
    · exact (h11 g (List.mem_cons_of_mem _ hg)).2 e (List.mem_append_left _ a)
    · rcases List.mem_cons.mp a with b | b
      · rw [b]; exact fun k => n1 (by rw [show f = g from k]; exact hg)
      · exact (h11 g (List.mem_cons_of_mem _ hg)).2 e (List.mem_append_right _ b)
  refine ⟨z, ok, av, ?_, ?_, ?_, ?_, rfl, gx_fl_fr F h9.2 (fun g hg => frm g (nf g hg)), n2, fun g hg => ⟨(h11 g (List.mem_cons_of_mem _ hg)).1, nf g hg⟩, ?_⟩
  · rw [eT']; exact gt_pw_ins h4 ha hb
  · rw [eT']
    intro x hx
    rcases List.mem_append.mp hx with a | a
    · exact h5 x (List.mem_append_left _ a)
    · rcases List.mem_cons.mp a with b | b
      · rw [b]; exact ⟨hq, Nat.le_refl 1⟩
      · exact h5 x (List.mem_append_right _ b)
  · rw [eT', gt_tot_ap]
    rw [gt_tot_ap] at ht
    show gt_tot A + (1 + gt_tot B) ≤ 40
    omega
  · rw [eT']; exact gt_pw_ins h7 (fun x hx => hf.2 x (List.mem_append_left _ hx)) (fun x hx => (hf.2 x (List.mem_append_right _ hx)).symm)
  · rw [eT', List.length_append, List.length_cons]
    rw [List.length_append, List.length_cons] at h12
    omega
theorem gx_inv_chg {fr : Int32} {G G' : Nat → gx_C} {T T' : gt_T} {i q m m' : Nat} {F : List Nat} {A B : List gt_E} (I : gx_inv fr G T F) (eT : gt_il T = A ++ (i, q, m) :: B) (eT' : gt_il T' = A ++ (i, q, m') :: B)
    (hm : 1 ≤ m') (ht : gt_tot (gt_il T') ≤ 40) (z : G' 0 = gx_z) (ok : gx_ok G' T') (av : gt_av T')
    (frm : ∀ x, (∀ e ∈ gt_il T', e.1 ≠ x) → G' x = G x) : gx_inv fr G' T' F := by
  obtain ⟨h1, h2, h3, h4, h5, h6, h7, h8, h9, h10, h11, h12⟩ := I
  rw [eT] at h4 h5 h7 h11 h12
  have nf : ∀ g ∈ F, ∀ e ∈ gt_il T', e.1 ≠ g := by
    intro g hg e he
    rw [eT'] at he
    rcases List.mem_append.mp he with a | a
    · exact (h11 g hg).2 e (List.mem_append_left _ a)
    · rcases List.mem_cons.mp a with b | b
      · rw [b]; exact (h11 g hg).2 (i, q, m) (List.mem_append_right _ List.mem_cons_self)
      · exact (h11 g hg).2 e (List.mem_append_right _ (List.mem_cons_of_mem _ b))
  refine ⟨z, ok, av, ?_, ?_, ht, ?_, h8, gx_fl_fr F h9 (fun g hg => frm g (nf g hg)), h10, fun g hg => ⟨(h11 g hg).1, nf g hg⟩, ?_⟩
  · rw [eT']; exact gt_pw_sub h4 (fun x _ h => h) (fun x _ h => h)
  · rw [eT']
    intro x hx
    rcases List.mem_append.mp hx with a | a
    · exact h5 x (List.mem_append_left _ a)
    · rcases List.mem_cons.mp a with b | b
      · rw [b]; exact ⟨(h5 (i, q, m) (List.mem_append_right _ List.mem_cons_self)).1, hm⟩
      · exact h5 x (List.mem_append_right _ (List.mem_cons_of_mem _ b))
  · rw [eT']; exact gt_pw_sub h7 (fun x _ h => h) (fun x _ h => h)
  · rw [eT', List.length_append, List.length_cons]
    rw [List.length_append, List.length_cons] at h12
    omega
section gxa
variable {W : gx_W} {rt fr dp : Int32} {G : Nat → gx_C} {pa : Nat → Int32}
/-- a node found in the tree counts otherwise -/
theorem gx_chg {post : SX → Prop} {T : gt_T} {F : List Nat} {C : List gt_F} {m m' i q : Nat} {l r : gt_T} (I : gx_inv fr G T F) (se : gx_se G pa (gt_il T) C (.inner m i q l r)) (hp : pa C.length = nI i) (hm : 1 ≤ m') (ht : gt_tot (gt_il T) + m' ≤ 40 + m)
    (K : ∀ (T' : gt_T) (G' : Nat → gx_C) (A B : List gt_E), gx_inv fr G' T' F → gt_il T = A ++ (i, q, m) :: B → gt_il T' = A ++ (i, q, m') :: B → post (gx_s W (nI (gt_rp T')) fr (nI (C.length + 1)) G' pa)) :
    wpX_mendPath post (gx_s W rt fr (nI (C.length + 1)) (gx_set G i (gx_sm (G i) (nI m'))) pa) := by
  have I' := I
  obtain ⟨h1, h2, h3, h4, h5, h6, h7, h8, h9, h10, h11, h12⟩ := I'
  obtain ⟨s1, s2, s3, s4, s5, s6, s7⟩ := se
  have hi := s2.1
  have eL : gt_il T = (gt_A C ++ gt_il l) ++ (i, q, m) :: (gt_il r ++ gt_B C) := by rw [← s4, gt_il_i, gt_pl_mid]
  have eN : gt_pl ((true, m', i, q, r) :: C) (gt_il l) = (gt_A C ++ gt_il l) ++ (i, q, m') :: (gt_il r ++ gt_B C) := gt_pl_mid C _ _ _
  rw [gt_hg_i] at s7
  have nd0 : gt_nd (gt_pl C (gt_il (.inner m i q l r))) := by rw [s4]; exact h7
  obtain ⟨n1, n2⟩ := gt_nd_pl nd0
  obtain ⟨_, _, nl, nr, _⟩ := gt_nd_i n1
  have hc : ∀ e ∈ gt_A C ++ gt_B C, e.1 ≠ i := fun e he => (n2 (i, q, m) gt_in_r e he).symm
  refine gx_mend (C := (true, m', i, q, r) :: C) (t := l) (h := gt_hg l) rfl (by rw [gx_set_n (by omega), h1]) (gx_fr_set s2.2.2.1 nl) s6.2.1 ⟨by omega, by omega⟩ ⟨s6.1, s6.2.2, s5⟩
    ⟨hi, ?_, gx_fr_set s2.2.2.2 nr, gx_cx_fr C i s1 (fun e he => gx_set_n (hc e he))⟩ ⟨hp, s3⟩ ?_ ?_ ?_ (fun q => nomatch q) ?_
  · rw [gx_set_s, s2.2.1]; exact ⟨rfl, rfl, rfl, rfl⟩
  · rw [eN]; rw [eL] at h7; exact gt_pw_sub h7 (fun x _ h => h) (fun x _ h => h)
  · rw [eN, List.length_append, List.length_cons]
    rw [eL, List.length_append, List.length_cons] at h12
    omega
  · show C.length + 1 ≤ 16
    omega
  · intro T' G' z' ok' av' il' fr'
    rw [eN] at il' fr'
    refine K T' G' _ _ (gx_inv_chg I eL il' hm ?_ z' ok' av' ?_) eL il'
    · rw [il', gt_tot_ap]
      rw [eL, gt_tot_ap] at ht
      have ht' : gt_tot (gt_A C ++ gt_il l) + (m + gt_tot (gt_il r ++ gt_B C)) + m' ≤ 40 + m := ht
      show gt_tot (gt_A C ++ gt_il l) + (m' + gt_tot (gt_il r ++ gt_B C)) ≤ 40
      omega
    · intro x hx
      rw [il'] at hx
      rw [fr' x hx, gx_set_n]
      exact (hx (i, q, m') (List.mem_append_right _ List.mem_cons_self)).symm
theorem gx_add {post : SX → Prop} {T : gt_T} {F : List Nat} {q : Nat} (I : gx_inv fr G T F) (ht : gt_tot (gt_il T) < 40) (hq : q < 34359738368)
    (K : ∀ (T' : gt_T) (G' : Nat → gx_C) (fr' dp' : Int32) (F' : List Nat) (pa' : Nat → Int32), gx_inv fr' G' T' F' → List.Perm (gt_ft (gt_il T')) (q :: gt_ft (gt_il T)) → post (gx_s W (nI (gt_rp T')) fr' dp' G' pa')) :
    wpX_add post (gx_s W (nI (gt_rp T)) fr dp G pa) (lN q) := by
  have I' := I
  obtain ⟨h1, h2, h3, h4, h5, h6, h7, h8, h9, h10, h11, h12⟩ := I'
  have hgt := gt_av_15 h3 (by omega)
  refine ⟨17, gx_add16 (L := gt_il T) hq h4 (fun x hx => (h5 x hx).1) ?_ ?_ T [] 17 pa ⟨trivial, h2, trivial, rfl, trivial, h3, by show 0 + _ ≤ 15; omega⟩ ⟨fun x hx => absurd hx List.not_mem_nil, fun x hx => absurd hx List.not_mem_nil⟩ (by omega)⟩
  · intro C pa' se ab
    have hlt := gt_len_tot (gt_il T) (fun x hx => (h5 x hx).2)
    obtain ⟨f, F, rfl⟩ : ∃ f F2, F = f :: F2 := by
      cases F with
      | nil => rw [List.length_nil] at h12; omega
      | cons f F => exact ⟨f, F, rfl⟩
    have hf := h11 f List.mem_cons_self
    obtain ⟨s1, s2, s3, s4, s5, s6, s7⟩ := se
    have s4' : gt_A C ++ gt_B C = gt_il T := by rw [← s4]; exact (gt_pl_nil C).symm
    have hfr : fr = nI f := h8
    subst hfr
    unfold wX_add_93
    refine br_t rfl ?_
    refine gx_newNode (W := W) (rt := nI (gt_rp T)) (dp := nI C.length) (G := G) (pa := pa') h1 hf.1 h9.1 ?_
    intro G1 e1 f1
    dsimp only
    have z1 : G1 0 = gx_z := by rw [f1 0 (by omega), h1]
    have ok1 : gx_ok G1 (.inner 1 f q .leaf .leaf) := ⟨hf.1, e1, trivial, trivial⟩
    have av1 : gt_av (.inner 1 f q .leaf .leaf) := ⟨⟨by show 0 ≤ 0 + 1; omega, by show 0 ≤ 0 + 1; omega⟩, trivial, trivial⟩
    have ilE : gt_pl C (gt_il (.inner 1 f q .leaf .leaf)) = gt_A C ++ (f, q, 1) :: gt_B C := gt_pl_one C _
    have nd1 : gt_nd (gt_pl C (gt_il (.inner 1 f q .leaf .leaf))) := by
      rw [ilE]
      refine gt_pw_ins (by rw [s4']; exact h7) (fun x hx => hf.2 x (by rw [← s4']; exact List.mem_append_left _ hx)) (fun x hx => (hf.2 x (by rw [← s4']; exact List.mem_append_right _ hx)).symm)
    have ln1 : (gt_pl C (gt_il (.inner 1 f q .leaf .leaf))).length ≤ 41 := by
      rw [ilE, List.length_append, List.length_cons]
      rw [← s4', List.length_append] at h12
      omega
    have hC : C.length ≤ 15 := by have : C.length + 0 ≤ 15 := s7; omega
    have cxf : ∀ e ∈ gt_A C ++ gt_B C, G1 e.1 = G e.1 := fun e he => f1 e.1 (hf.2 e (by rw [← s4']; exact he))
    have fin : ∀ (rt' : Int32) (G2 : Nat → gx_C), G2 0 = gx_z → gx_ok G2 (.inner 1 f q .leaf .leaf) → gx_cx G2 C f → (C = [] → rt' = nI f) → (∀ x, (∀ e ∈ gt_A C ++ (f, q, 1) :: gt_B C, e.1 ≠ x) → G2 x = G x) →
        wX_add_177 post rt' (nI (F.headD 0)) (nI C.length) W.1 W.2.1 W.2.2.1 W.2.2.2.1 W.2.2.2.2.1 (fun qq => (G2 qq).1) (fun qq => (G2 qq).2.1) (fun qq => (G2 qq).2.2.1) (fun qq => (G2 qq).2.2.2.1) (fun qq => (G2 qq).2.2.2.2.1) (fun qq => (G2 qq).2.2.2.2.2.1) (fun qq => (G2 qq).2.2.2.2.2.2.1) (fun qq => (G2 qq).2.2.2.2.2.2.2) pa' W.2.2.2.2.2.1 W.2.2.2.2.2.2.1 W.2.2.2.2.2.2.2.1 W.2.2.2.2.2.2.2.2.1 W.2.2.2.2.2.2.2.2.2 := by
      intro rt' G2 z2 ok2 cx2 hr2 fr2
      unfold wX_add_177
      refine gx_mend (W := W) (rt := rt') (G := G2) (pa := pa') (C := C) (t := .inner 1 f q .leaf .leaf) (h := 0) rfl z2 ok2 av1 ⟨by omega, by show 1 + max 0 0 ≤ 0 + 1; omega⟩ s5 cx2 s3 nd1 ln1 (by omega) hr2 ?_
      intro T' G' z' ok' av' il' fr'
      rw [ilE] at il' fr'
      refine K T' G' _ _ F _ (gx_inv_add I s4'.symm il' ab.1 ab.2 hq ht z' ok' av' ?_) ?_
      · intro x hx
        rw [il'] at hx
        rw [fr' x hx, fr2 x hx]
      · rw [il', ← s4']; exact gt_ft_new _ _ _ _
    cases C with
    | nil =>
      exact br_t rfl (fin (nI f) G1 z1 ok1 trivial (fun _ => rfl) (fun x hx => f1 x (Ne.symm (hx (f, q, 1) List.mem_cons_self))))
    | cons fr0 C =>
      obtain ⟨b, m, k, p, s⟩ := fr0
      have hl : ((b, m, k, p, s) :: C).length = C.length + 1 := rfl
      rw [hl] at hC
      have cx1 : gx_cx G1 ((b, m, k, p, s) :: C) 0 := gx_cx_fr _ _ s1 cxf
      have hk : 0 < k ∧ k < 41 := by cases b with
        | true => exact cx1.1
        | false => exact cx1.1
      have kl : (k, p, m) ∈ gt_il T := by rw [← s4']; exact gt_hd_mem
      have hp : p < 34359738368 := (h5 _ kl).1
      have kf : k ≠ f := hf.2 _ kl
      have eP : (G1 k).1 = lN p := by cases b with
        | true => exact cx1.2.1.1
        | false => exact cx1.2.1.1
      have ev : vp_in (nI (C.length + 1) - 1) 16 := by rw [nI_pred]; exact vp_in_nI (by omega) (by omega)
      have ep : pa' (nI (C.length + 1) - 1).toNatClampNeg = nI k := by rw [nI_pred, nI_clamp (by omega)]; exact s3.1
      have hset := gx_cx_set (y := f) cx1 nd1
      have fin2 : ∀ c : gx_C, gx_cx (gx_set G1 k c) ((b, m, k, p, s) :: C) f → wX_add_177 post (nI (gt_rp T)) (nI (F.headD 0)) (nI (C.length + 1)) W.1 W.2.1 W.2.2.1 W.2.2.2.1 W.2.2.2.2.1 (fun qq => ((gx_set G1 k c) qq).1) (fun qq => ((gx_set G1 k c) qq).2.1) (fun qq => ((gx_set G1 k c) qq).2.2.1) (fun qq => ((gx_set G1 k c) qq).2.2.2.1) (fun qq => ((gx_set G1 k c) qq).2.2.2.2.1) (fun qq => ((gx_set G1 k c) qq).2.2.2.2.2.1) (fun qq => ((gx_set G1 k c) qq).2.2.2.2.2.2.1) (fun qq => ((gx_set G1 k c) qq).2.2.2.2.2.2.2) pa' W.2.2.2.2.2.1 W.2.2.2.2.2.2.1 W.2.2.2.2.2.2.2.1 W.2.2.2.2.2.2.2.2.1 W.2.2.2.2.2.2.2.2.2 := by
        intro c hcx
        refine fin _ _ (by rw [gx_set_n (by omega), z1]) (gx_fr_set ok1 ?_) hcx (fun q => nomatch q) ?_
        · intro x hx
          have hx' : x ∈ [(f, q, 1)] := hx
          rw [List.mem_singleton.mp hx']
          exact kf.symm
        · intro x hx
          have xk : x ≠ k := by
            have hm : (k, p, m) ∈ gt_pl ((b, m, k, p, s) :: C) (gt_il (.inner 1 f q .leaf .leaf)) := gt_pl_memc gt_hd_mem
            rw [ilE] at hm
            exact Ne.symm (hx _ hm)
          rw [gx_set_n xk, f1 x (Ne.symm (hx (f, q, 1) (List.mem_append_right _ List.mem_cons_self)))]
      refine br_f (by rw [hl]; exact nI_ne0 (by omega) (by omega)) ?_
      rw [hl, ep, ga_cl hk.2]
      refine ⟨ev, ev, ga_in hk.2, ?_⟩
      cases b with
      | true =>
        have qp : q < p := ab.2 (k, p, m) List.mem_cons_self
        refine br_f (by rw [eP]; exact fun e => absurd ((pk_lLE (by omega) (by omega)).mp e) (by omega)) ?_
        unfold wX_add_172
        refine gx_attL hk.2 ?_
        dsimp only
        exact fin2 _ hset
      | false =>
        have qp : p < q := ab.1 (k, p, m) (List.mem_append_right _ (List.mem_append_right _ List.mem_cons_self))
        refine br_t (by rw [eP]; exact (pk_lLE (by omega) (by omega)).mpr (by omega)) ?_
        unfold wX_add_172
        refine gx_attR hk.2 ?_
        dsimp only
        exact fin2 _ hset
  · intro C pa' m i l r se
    have hi := se.2.1.1
    have eM : (G i).2.1 = nI m := by rw [se.2.1.2.1]; rfl
    have hm : m ≤ 40 := by
      have hin : (i, q, m) ∈ gt_il T := by rw [← se.2.2.2.1]; exact gt_pl_mem gt_in_r
      obtain ⟨A, B, e⟩ := List.append_of_mem hin
      rw [e, gt_tot_ap] at h6
      have : gt_tot A + (m + gt_tot B) ≤ 40 := h6
      omega
    unfold wX_add_93 wX_add_177
    refine br_f (by decide) ⟨ga_in hi.2, ga_in hi.2, ?_⟩
    rw [ga_cl hi.2]
    refine nm_r (e' := upd (fun qq => (G qq).2.1) i (nI (m + 1))) (by show upd _ _ ((G i).2.1 + 1) = _; rw [eM, nI_1]) (gx_toM (G := G) (fun u => wpX_mendPath _ u) ?_)
    refine gx_chg (F := F) (T := T) (m := m) (q := q) (l := l) (r := r) I ⟨se.1, se.2.1, gx_pa_up C _ (Nat.le_refl _) se.2.2.1, se.2.2.2⟩ pk_us (by omega) (by omega) ?_
    intro T' G' A B I' e1 e2
    refine K T' G' _ _ F _ I' ?_
    rw [e1, e2]
    exact gt_ft_up A B i q m
end gxa
end
section
/-! taking an entry out -/
theorem gt_pl_ap2 : ∀ (D C : List gt_F) (L : List gt_E), gt_pl (D ++ C) L = gt_pl C (gt_pl D L) := by
  intro D C
  induction D with
  | nil => intro L; rfl
  | cons f D ih =>
    intro L
    obtain ⟨b, m, i, p, s⟩ := f
    cases b with
    | true => exact ih _
    | false => exact ih _
def gt_allt (D : List gt_F) : Prop := ∀ f ∈ D, f.1 = true
theorem gt_pl_t : ∀ (D : List gt_F) (e : gt_E) (L : List gt_E), gt_allt D → gt_pl D (e :: L) = e :: gt_pl D L := by
  intro D
  induction D with
  | nil => intro e L _; rfl
  | cons f D ih =>
    intro e L h
    obtain ⟨b, m, i, p, s⟩ := f
    cases b with
    | true => exact ih e _ (fun g hg => h g (List.mem_cons_of_mem _ hg))
    | false => exact absurd (h _ List.mem_cons_self) (fun q => nomatch q)
theorem gt_fr_mem : ∀ (D : List gt_F) (L : List gt_E), ∀ f ∈ D, (f.2.2.1, f.2.2.2.1, f.2.1) ∈ gt_pl D L ∧ ∀ e ∈ gt_il f.2.2.2.2, e ∈ gt_pl D L := by
  intro D
  induction D with
  | nil => intro L f hf; exact absurd hf List.not_mem_nil
  | cons g D ih =>
    intro L f hf
    obtain ⟨b, m, i, p, s⟩ := g
    cases b with
    | true =>
      rcases List.mem_cons.mp hf with e | e
      · rw [e]
        exact ⟨gt_pl_mem (C := D) (List.mem_append_right _ List.mem_cons_self), fun x hx => gt_pl_mem (C := D) (List.mem_append_right _ (List.mem_cons_of_mem _ hx))⟩
      · exact ih _ f e
    | false =>
      rcases List.mem_cons.mp hf with e | e
      · rw [e]
        exact ⟨gt_pl_mem (C := D) (List.mem_append_right _ List.mem_cons_self), fun x hx => gt_pl_mem (C := D) (List.mem_append_left _ hx)⟩
      · exact ih _ f e
/-- a frame within the context gets another entry -/
theorem gx_cx_rep {G G' : Nat → gx_C} {m i q m' q' : Nat} {l : gt_T} {C : List gt_F} (hG : ∀ x, x ≠ i → G' x = G x) (hi' : G' i = (lN q', nI m', (G i).2.2)) (nl : gt_ni i l) (nC : ∀ e ∈ gt_A C ++ gt_B C, e.1 ≠ i) :
    ∀ (D : List gt_F) (x : Nat), (∀ f ∈ D, f.2.2.1 ≠ i ∧ gt_ni i f.2.2.2.2) → gx_cx G (D ++ (false, m, i, q, l) :: C) x → gx_cx G' (D ++ (false, m', i, q', l) :: C) x := by
  intro D
  induction D with
  | nil =>
    intro x _ h
    refine ⟨h.1, ?_, gx_fr l h.2.2.1 (fun e he => hG _ (nl e he)), gx_cx_fr C i h.2.2.2 (fun e he => hG _ (nC e he))⟩
    rw [hi']
    exact ⟨rfl, rfl, h.2.1.2.2.1, h.2.1.2.2.2⟩
  | cons f D ih =>
    intro x hD h
    obtain ⟨b, m1, k, p, s⟩ := f
    obtain ⟨hk, hs⟩ := hD _ List.mem_cons_self
    have hk' : G' k = G k := hG k hk
    cases b with
    | true => exact ⟨h.1, by rw [hk']; exact h.2.1, gx_fr s h.2.2.1 (fun e he => hG _ (hs e he)), ih k (fun g hg => hD g (List.mem_cons_of_mem _ hg)) h.2.2.2⟩
    | false => exact ⟨h.1, by rw [hk']; exact h.2.1, gx_fr s h.2.2.1 (fun e he => hG _ (hs e he)), ih k (fun g hg => hD g (List.mem_cons_of_mem _ hg)) h.2.2.2⟩
theorem gt_cb_rep {m i q m' q' : Nat} {l : gt_T} {C : List gt_F} : ∀ (D : List gt_F) (h : Nat), gt_cb (D ++ (false, m, i, q, l) :: C) h → gt_cb (D ++ (false, m', i, q', l) :: C) h := by
  intro D
  induction D with
  | nil => intro h a; exact a
  | cons f D ih => intro h a; exact ⟨a.1, a.2.1, ih _ a.2.2⟩
theorem gx_pa_rep {pa : Nat → Int32} {m i q m' q' : Nat} {l : gt_T} {C : List gt_F} : ∀ D : List gt_F, gx_pa pa (D ++ (false, m, i, q, l) :: C) → gx_pa pa (D ++ (false, m', i, q', l) :: C) := by
  intro D
  induction D with
  | nil => intro a; exact a
  | cons f D ih =>
    intro a
    refine ⟨?_, ih a.2⟩
    have e : (D ++ (false, m', i, q', l) :: C).length = (D ++ (false, m, i, q, l) :: C).length := by rw [List.length_append, List.length_append]; rfl
    show pa (D ++ (false, m', i, q', l) :: C).length = _
    rw [e]; exact a.1
theorem gx_inv_del {fr : Int32} {G G' : Nat → gx_C} {T T' : gt_T} {o : Nat} {F : List Nat} (I : gx_inv fr G T F) (so : gt_so (gt_il T')) (nd : gt_nd (gt_il T'))
    (ids : ∀ x ∈ gt_il T', x.2.1 < 34359738368 ∧ 1 ≤ x.2.2 ∧ x.1 ≠ o ∧ ∃ y ∈ gt_il T, y.1 = x.1) (ho : ∃ y ∈ gt_il T, y.1 = o) (tot : gt_tot (gt_il T') ≤ 40) (len : (gt_il T').length + 1 = (gt_il T).length)
    (z : G' 0 = gx_z) (ok : gx_ok G' T') (av : gt_av T') (hfr : (G' o).2.2.1 = fr) (frm : ∀ x, x ≠ o → (∀ e ∈ gt_il T', e.1 ≠ x) → G' x = G x) : gx_inv (nI o) G' T' (o :: F) := by
  obtain ⟨h1, h2, h3, h4, h5, h6, h7, h8, h9, h10, h11, h12⟩ := I
  obtain ⟨y, hy, ey⟩ := ho
  have oF : ∀ g ∈ F, g ≠ o := fun g hg e => (h11 g hg).2 y hy (by rw [ey, e])
  have nf : ∀ g ∈ F, ∀ e ∈ gt_il T', e.1 ≠ g := by
    intro g hg e he
    obtain ⟨_, _, _, y2, hy2, e2⟩ := ids e he
    rw [← e2]
    exact (h11 g hg).2 y2 hy2
  refine ⟨z, ok, av, so, fun x hx => ⟨(ids x hx).1, (ids x hx).2.1⟩, tot, nd, rfl, ⟨by rw [hfr, h8], gx_fl_fr F h9 (fun g hg => frm g (oF g hg) (nf g hg))⟩, List.nodup_cons.mpr ⟨fun h => oF o h rfl, h10⟩, ?_, ?_⟩
  · intro g hg
    rcases List.mem_cons.mp hg with e | e
    · rw [e]
      exact ⟨by rw [← ey]; exact gx_ids T h2 y hy, fun x hx => (ids x hx).2.2.1⟩
    · exact ⟨(h11 g e).1, nf g e⟩
  · rw [List.length_cons]; omega
section gxd
variable {W : gx_W} {rt fr dp : Int32} {G : Nat → gx_C} {pa : Nat → Int32}
/-- takeOut: node o, with the one child c, leaves the context's hole to c -/
theorem gx_takeOut {post : SX → Prop} {o a b po mo : Nat} {C : List gt_F} {c : gt_T} (z : G 0 = gx_z) (ho : 0 < o ∧ o < 41) (hL : (G o).2.2.1 = nI a) (hR : (G o).2.2.2.1 = nI b) (ha : a < 41) (hc : (a = 0 ∧ gt_rp c = b) ∨ (a ≠ 0 ∧ gt_rp c = a))
    (ok : gx_ok G c) (cx : gx_cx G C o) (hp : gx_pa pa C) (nd : gt_nd (gt_pl C ((o, po, mo) :: gt_il c))) (hC : C.length ≤ 15)
    (K : ∀ (rt' : Int32) (G' : Nat → gx_C), G' 0 = gx_z → gx_ok G' c → gx_cx G' C (gt_rp c) → (C = [] → rt' = nI (gt_rp c)) → (G' o).2.2.1 = fr → (∀ x, x ≠ o → (∀ e ∈ gt_pl C (gt_il c), e.1 ≠ x) → G' x = G x) →
      post (gx_s W rt' (nI o) (nI C.length) G' pa)) :
    wpX_takeOut post (gx_s W rt fr (nI (C.length + 1)) G pa) (nI o) := by
  obtain ⟨n1, n2⟩ := gt_nd_pl nd
  have no : gt_ni o c := fun x hx => ((List.pairwise_cons.mp n1).1 x hx).symm
  have nC : ∀ e ∈ gt_A C ++ gt_B C, e.1 ≠ o := fun e he => (n2 (o, po, mo) List.mem_cons_self e he).symm
  have v := ga_in ho.2
  have main : wX_takeOut_24 post (nI o) (nI (gt_rp c)) rt fr (nI (C.length + 1)) W.1 W.2.1 W.2.2.1 W.2.2.2.1 W.2.2.2.2.1 (fun qq => (G qq).1) (fun qq => (G qq).2.1) (fun qq => (G qq).2.2.1) (fun qq => (G qq).2.2.2.1) (fun qq => (G qq).2.2.2.2.1) (fun qq => (G qq).2.2.2.2.2.1) (fun qq => (G qq).2.2.2.2.2.2.1) (fun qq => (G qq).2.2.2.2.2.2.2) pa W.2.2.2.2.2.1 W.2.2.2.2.2.2.1 W.2.2.2.2.2.2.2.1 W.2.2.2.2.2.2.2.2.1 W.2.2.2.2.2.2.2.2.2 := by
    unfold wX_takeOut_24
    have fin : ∀ (rt' : Int32) (G1 : Nat → gx_C), G1 0 = gx_z → gx_ok G1 c → gx_cx G1 C (gt_rp c) → (C = [] → rt' = nI (gt_rp c)) → (∀ x, x ≠ o → (∀ e ∈ gt_pl C (gt_il c), e.1 ≠ x) → G1 x = G x) → wX_takeOut_83 post (nI o) rt' fr (nI C.length) W.1 W.2.1 W.2.2.1 W.2.2.2.1 W.2.2.2.2.1 (fun qq => (G1 qq).1) (fun qq => (G1 qq).2.1) (fun qq => (G1 qq).2.2.1) (fun qq => (G1 qq).2.2.2.1) (fun qq => (G1 qq).2.2.2.2.1) (fun qq => (G1 qq).2.2.2.2.2.1) (fun qq => (G1 qq).2.2.2.2.2.2.1) (fun qq => (G1 qq).2.2.2.2.2.2.2) pa W.2.2.2.2.2.1 W.2.2.2.2.2.2.1 W.2.2.2.2.2.2.2.1 W.2.2.2.2.2.2.2.2.1 W.2.2.2.2.2.2.2.2.2 := by
      intro rt' G1 z1 ok1 cx1 hr1 f1
      unfold wX_takeOut_83
      rw [ga_cl ho.2]
      refine ⟨v, nm_e (gx_toL (G := G1) post ?_)⟩
      refine K rt' _ (by rw [gx_set_n (by omega), z1]) (gx_fr_set ok1 no) (gx_cx_fr C _ cx1 (fun e he => gx_set_n (nC e he))) hr1 (by rw [gx_set_s]; rfl) (fun x h1 h2 => by rw [gx_set_n h1, f1 x h1 h2])
    refine nm_r (nI_pred C.length) ?_
    cases C with
    | nil => exact br_t rfl (fin _ G z ok trivial (fun _ => rfl) (fun _ _ _ => rfl))
    | cons f C =>
      obtain ⟨bb, m, k, p, s⟩ := f
      have hl : ((bb, m, k, p, s) :: C).length = C.length + 1 := rfl
      rw [hl] at hC
      have hk : 0 < k ∧ k < 41 := by cases bb with
        | true => exact cx.1
        | false => exact cx.1
      have ko : k ≠ o := nC (k, p, m) gt_hd_mem
      have hpk : pa (nI (C.length + 1) - 1).toNatClampNeg = nI k := by
        rw [nI_pred, nI_clamp (by omega)]; exact hp.1
      have ndc : gt_nd (gt_pl ((bb, m, k, p, s) :: C) (gt_il c)) := by
        rw [gt_pl_ap] at nd ⊢
        exact gt_pw_del (e := (o, po, mo)) nd
      have ck : ∀ x ∈ gt_il c, x.1 ≠ k := fun x hx => n2 x (List.mem_cons_of_mem _ hx) _ gt_hd_mem
      have hset := gx_cx_set (y := gt_rp c) cx ndc
      have fin2 : ∀ cc : gx_C, gx_cx (gx_set G k cc) ((bb, m, k, p, s) :: C) (gt_rp c) → wX_takeOut_83 post (nI o) rt fr (nI (C.length + 1)) W.1 W.2.1 W.2.2.1 W.2.2.2.1 W.2.2.2.2.1 (fun qq => ((gx_set G k cc) qq).1) (fun qq => ((gx_set G k cc) qq).2.1) (fun qq => ((gx_set G k cc) qq).2.2.1) (fun qq => ((gx_set G k cc) qq).2.2.2.1) (fun qq => ((gx_set G k cc) qq).2.2.2.2.1) (fun qq => ((gx_set G k cc) qq).2.2.2.2.2.1) (fun qq => ((gx_set G k cc) qq).2.2.2.2.2.2.1) (fun qq => ((gx_set G k cc) qq).2.2.2.2.2.2.2) pa W.2.2.2.2.2.1 W.2.2.2.2.2.2.1 W.2.2.2.2.2.2.2.1 W.2.2.2.2.2.2.2.2.1 W.2.2.2.2.2.2.2.2.2 := by
        intro cc hcx
        refine fin rt _ (by rw [gx_set_n (by omega), z]) (gx_fr_set ok ck) hcx (fun q => nomatch q) (fun x h1 h2 => gx_set_n ?_)
        exact (h2 _ (gt_pl_memc gt_hd_mem)).symm
      refine br_f (by rw [hl]; exact nI_ne0 (by omega) (by omega)) ?_
      rw [hl]
      refine ⟨by rw [nI_pred]; exact vp_in_nI (by omega) (by omega), nm_r hpk ⟨ga_in hk.2, ?_⟩⟩
      rw [ga_cl hk.2]
      cases bb with
      | true =>
        refine br_t cx.2.1.2.2.1 ?_
        unfold wX_takeOut_79
        refine gx_attL hk.2 ?_
        dsimp only
        exact fin2 _ hset
      | false =>
        have hs : gt_rp s ≠ o := by
          intro q
          obtain ⟨e1, he1, hq⟩ := gt_rp_mem cx.2.2.1 (by omega)
          exact nC e1 (gt_sib_mem he1) (by rw [hq, q])
        refine br_f (by show ¬ (G k).2.2.1 = nI o; rw [cx.2.1.2.2.1]; exact fun q => hs (ga_im q (by have := gx_rp41 cx.2.2.1; omega) (by omega))) ?_
        unfold wX_takeOut_79
        refine gx_attR hk.2 ?_
        dsimp only
        exact fin2 _ hset
  unfold wpX_takeOut
  dsimp only
  rw [ga_cl ho.2, hL, hR]
  rcases hc with ⟨a0, e⟩ | ⟨a0, e⟩
  · subst a0
    rw [← e]
    exact ⟨v, br_t rfl ⟨v, main⟩⟩
  · rw [← e] at a0 ha ⊢
    exact ⟨v, br_f (nI_ne0 (by omega) (by omega)) ⟨v, main⟩⟩
/-- goToNext: the leftmost node of a subtree -/
theorem gx_next14 {post : Int32 → SX → Prop} {L : List gt_E} {C0 : List gt_F} : ∀ (t : gt_T) (m o p : Nat) (l r : gt_T) (D : List gt_F) (n st : Nat) (pa : Nat → Int32), t = .inner m o p l r → gt_allt D → gx_se G pa L (D ++ C0) t → pa (D ++ C0).length = nI o → gt_hg t + st ≤ 15 → gt_hg t < n →
    (∀ (m o p : Nat) (r : gt_T) (D : List gt_F) (pa : Nat → Int32), gt_allt D → gx_se G pa L (D ++ C0) (.inner m o p .leaf r) → pa (D ++ C0).length = nI o → post (nI o) (gx_s W rt fr (nI ((D ++ C0).length + 1)) G pa)) →
    wX_goToNext_14 post n (nI o) (nI st) rt fr (nI ((D ++ C0).length + 1)) W.1 W.2.1 W.2.2.1 W.2.2.2.1 W.2.2.2.2.1 (fun qq => (G qq).1) (fun qq => (G qq).2.1) (fun qq => (G qq).2.2.1) (fun qq => (G qq).2.2.2.1) (fun qq => (G qq).2.2.2.2.1) (fun qq => (G qq).2.2.2.2.2.1) (fun qq => (G qq).2.2.2.2.2.2.1) (fun qq => (G qq).2.2.2.2.2.2.2) pa W.2.2.2.2.2.1 W.2.2.2.2.2.2.1 W.2.2.2.2.2.2.2.1 W.2.2.2.2.2.2.2.2.1 W.2.2.2.2.2.2.2.2.2 := by
  intro t
  induction t with
  | leaf => intro m o p l r D n st pa e; exact absurd e (fun q => nomatch q)
  | inner m0 o0 p0 l0 r0 ihl ihr =>
    intro m o p l r D n st pa e al se hp hs hn K
    obtain ⟨rfl, rfl, rfl, rfl, rfl⟩ : m0 = m ∧ o0 = o ∧ p0 = p ∧ l0 = l ∧ r0 = r := by
      injection e with e1 e2 e3 e4 e5
      exact ⟨e1, e2, e3, e4, e5⟩
    obtain ⟨n, rfl⟩ : ∃ a, n = a + 1 := ⟨n - 1, by omega⟩
    rw [gt_hg_i] at hs hn
    have hi := se.2.1.1
    have hG := se.2.1.2.1
    have v := ga_in hi.2
    have eL : (G (nI o0).toNatClampNeg).2.2.1 = nI (gt_rp l0) := by rw [ga_cl hi.2, hG]; rfl
    refine br_f (gx_16 (by omega)) ⟨v, ?_⟩
    cases l0 with
    | leaf => exact br_t eL (K m0 o0 p0 r0 D pa al se hp)
    | inner m1 o1 p1 l1 r1 =>
      have hl := se.2.1.2.2.1
      refine br_f (by show ¬ (G (nI o0).toNatClampNeg).2.2.1 = 0; rw [eL]; exact gx_ne0 hl.1) ⟨v, nm_r eL ?_⟩
      have hlen : (D ++ C0).length + 1 < 16 := by have := se.2.2.2.2.2.2; rw [gt_hg_i, gt_hg_i] at this; omega
      refine gx_step (W := W) (rt := rt) (fr := fr) (G := G) (pa := pa) hlen ?_
      dsimp only
      refine nm_r (nI_1 st) ?_
      have se1 := gx_se_l (pa' := upd pa ((D ++ C0).length + 1) (nI o1)) se (by rw [pk_un (by omega)]; exact hp) (gx_pa_up _ _ (by omega) se.2.2.1)
      refine ihl m1 o1 p1 l1 r1 ((true, m0, o0, p0, r0) :: D) n (st + 1) _ rfl ?_ se1 pk_us (by omega) (by omega) K
      intro f hf
      rcases List.mem_cons.mp hf with h | h
      · rw [h]
      · exact al f h
end gxd
end
section
section gxe
variable {W : gx_W} {rt fr dp : Int32} {G : Nat → gx_C} {pa : Nat → Int32}
theorem gx_goNext {post : Int32 → SX → Prop} {L : List gt_E} {C : List gt_F} {m i q mr j pr : Nat} {l a b : gt_T} (se : gx_se G pa L C (.inner m i q l (.inner mr j pr a b))) (hp : pa C.length = nI i)
    (K : ∀ (m' o p' : Nat) (r' : gt_T) (D : List gt_F) (pa' : Nat → Int32), gt_allt D → gx_se G pa' L (D ++ (false, m, i, q, l) :: C) (.inner m' o p' .leaf r') → pa' (D ++ (false, m, i, q, l) :: C).length = nI o → post (nI o) (gx_s W rt fr (nI ((D ++ (false, m, i, q, l) :: C).length + 1)) G pa')) :
    wpX_goToNext post (gx_s W rt fr (nI (C.length + 1)) G pa) (nI i) := by
  have hi := se.2.1.1
  have hG := se.2.1.2.1
  have v := ga_in hi.2
  have eR : (G (nI i).toNatClampNeg).2.2.2.1 = nI j := by rw [ga_cl hi.2, hG]; rfl
  have hlen := se.2.2.2.2.2.2
  rw [gt_hg_i, gt_hg_i] at hlen
  have hgr : gt_hg (.inner mr j pr a b) ≤ 14 - C.length := by rw [gt_hg_i]; omega
  unfold wpX_goToNext
  dsimp only
  refine ⟨v, nm_r eR ?_⟩
  refine gx_step (W := W) (rt := rt) (fr := fr) (G := G) (pa := pa) (d := C.length + 1) (by omega) ?_
  dsimp only
  have se1 := gx_se_r (pa' := upd pa (C.length + 1) (nI j)) se (by rw [pk_un (by omega)]; exact hp) (gx_pa_up _ _ (by omega) se.2.2.1)
  exact ⟨17, gx_next14 (C0 := (false, m, i, q, l) :: C) (.inner mr j pr a b) mr j pr a b [] 17 0 _ rfl (fun f hf => absurd hf List.not_mem_nil) se1 pk_us (by omega) (by omega) K⟩
/-- the continuation of drop -/
def gx_dk (post : SX → Prop) (W : gx_W) (T : gt_T) (q : Nat) : Prop :=
  ∀ (T' : gt_T) (G' : Nat → gx_C) (fr' dp' : Int32) (F' : List Nat) (pa' : Nat → Int32), gx_inv fr' G' T' F' → List.Perm (gt_ft (gt_il T)) (q :: gt_ft (gt_il T')) → post (gx_s W (nI (gt_rp T')) fr' dp' G' pa')
theorem gx_drop1 {post : SX → Prop} {T : gt_T} {F : List Nat} {C : List gt_F} {i q : Nat} {l r c : gt_T} (I : gx_inv fr G T F) (se : gx_se G pa (gt_il T) C (.inner 1 i q l r))
    (hc : (l = .leaf ∧ c = r) ∨ (r = .leaf ∧ gt_rp l ≠ 0 ∧ c = l)) (K : gx_dk post W T q) : wX_drop_162 post (nI i) rt fr (nI (C.length + 1)) W.1 W.2.1 W.2.2.1 W.2.2.2.1 W.2.2.2.2.1 (fun qq => (G qq).1) (fun qq => (G qq).2.1) (fun qq => (G qq).2.2.1) (fun qq => (G qq).2.2.2.1) (fun qq => (G qq).2.2.2.2.1) (fun qq => (G qq).2.2.2.2.2.1) (fun qq => (G qq).2.2.2.2.2.2.1) (fun qq => (G qq).2.2.2.2.2.2.2) pa W.2.2.2.2.2.1 W.2.2.2.2.2.2.1 W.2.2.2.2.2.2.2.1 W.2.2.2.2.2.2.2.2.1 W.2.2.2.2.2.2.2.2.2 := by
  have I' := I
  obtain ⟨h1, h2, h3, h4, h5, h6, h7, h8, h9, h10, h11, h12⟩ := I'
  obtain ⟨s1, s2, s3, s4, s5, s6, s7⟩ := se
  have hi := s2.1
  rw [gt_hg_i] at s5 s7
  obtain ⟨A, B, eT, eN⟩ : ∃ A B, gt_il T = A ++ (i, q, 1) :: B ∧ gt_pl C (gt_il c) = A ++ B := by
    rcases hc with ⟨e1, e2⟩ | ⟨e1, e0, e2⟩
    · subst e1 e2
      exact ⟨gt_A C, gt_il c ++ gt_B C, by rw [← s4, gt_pl_ap]; rfl, gt_pl_ap _ _⟩
    · subst e1 e2
      exact ⟨gt_A C ++ gt_il c, gt_B C, by rw [← s4, gt_il_i, gt_pl_mid]; rfl, by rw [gt_pl_ap, List.append_assoc]⟩
  have cfacts : gx_ok G c ∧ gt_av c ∧ gt_hg c + 1 = 1 + max (gt_hg l) (gt_hg r) := by
    rcases hc with ⟨e1, e2⟩ | ⟨e1, e0, e2⟩
    · subst e1 e2
      exact ⟨s2.2.2.2, s6.2.2, by show _ = 1 + max 0 _; omega⟩
    · subst e1 e2
      exact ⟨s2.2.2.1, s6.2.1, by show _ = 1 + max _ 0; omega⟩
  obtain ⟨ok, av, hh⟩ := cfacts
  have h7' := h7
  rw [eT] at h7'
  have ndc : gt_nd (gt_pl C ((i, q, 1) :: gt_il c)) := by
    rw [gt_pl_ap]
    have e : List.Perm (gt_A C ++ ((i, q, 1) :: gt_il c ++ gt_B C)) (gt_il T) := by
      rw [eT, List.cons_append]
      refine List.perm_middle.trans (List.Perm.trans ?_ List.perm_middle.symm)
      rw [← eN, gt_pl_ap]
    exact (e.pairwise_iff (fun h => Ne.symm h)).mpr h7
  obtain ⟨_, _, na, nb, _⟩ := gt_nd_i h7'
  have nP : ∀ e ∈ gt_pl C (gt_il c), e.1 ≠ i := by
    rw [eN]
    intro e he
    rcases List.mem_append.mp he with a | a
    · exact na e a
    · exact nb e a
  unfold wX_drop_162
  refine gx_takeOut (W := W) (rt := rt) (fr := fr) (G := G) (pa := pa) (a := gt_rp l) (b := gt_rp r) (po := q) (mo := 1) (c := c) (C := C) h1 hi (by rw [s2.2.1]; rfl) (by rw [s2.2.1]; rfl) (gx_rp41 s2.2.2.1) ?_ ok s1 s3 ndc (by omega) ?_
  · rcases hc with ⟨e1, e2⟩ | ⟨e1, e0, e2⟩
    · subst e1 e2; exact Or.inl ⟨rfl, rfl⟩
    · subst e1 e2; exact Or.inr ⟨e0, rfl⟩
  intro rt' G' z' ok' cx' hr' hf' f'
  dsimp only
  refine gx_mend (W := W) (rt := rt') (G := G') (pa := pa) (C := C) (t := c) (h := 1 + max (gt_hg l) (gt_hg r)) rfl z' ok' av (by omega) s5 cx' s3 ?_ ?_ (by omega) hr' ?_
  · rw [eN]; exact gt_pw_del h7'
  · rw [eN]
    rw [eT, List.length_append, List.length_cons] at h12
    rw [List.length_append]
    omega
  intro T' G'' z'' ok'' av'' il'' f''
  refine K T' G'' (nI i) (nI C.length) (i :: F) pa (gx_inv_del I ?_ ?_ ?_ ⟨(i, q, 1), by rw [eT]; exact List.mem_append_right _ List.mem_cons_self, rfl⟩ ?_ ?_ z'' ok'' av'' ?_ ?_) ?_
  · rw [il'', eN]; rw [eT] at h4; exact gt_pw_del h4
  · rw [il'', eN]; exact gt_pw_del h7'
  · intro x hx
    rw [il''] at hx
    have hn := nP x hx
    rw [eN] at hx
    have hx' : x ∈ gt_il T := by
      rw [eT]
      rcases List.mem_append.mp hx with a | a
      · exact List.mem_append_left _ a
      · exact List.mem_append_right _ (List.mem_cons_of_mem _ a)
    exact ⟨(h5 x hx').1, (h5 x hx').2, hn, x, hx', rfl⟩
  · rw [il'', eN, gt_tot_ap]
    rw [eT, gt_tot_ap] at h6
    have h6' : gt_tot A + (1 + gt_tot B) ≤ 40 := h6
    omega
  · rw [il'', eN, eT, List.length_append, List.length_append, List.length_cons]
    omega
  · rw [f'' i nP, hf']
  · intro x h1 h2
    rw [il''] at h2
    rw [f'' x h2, f' x h1 h2]
  · rw [il'', eN, eT]; exact gt_ft_new A B i q
theorem gx_drop2 {post : SX → Prop} {T : gt_T} {F : List Nat} {C D : List gt_F} {i q mo o po : Nat} {l r : gt_T} (I : gx_inv fr G T F) (al : gt_allt D) (se : gx_se G pa (gt_il T) (D ++ (false, 1, i, q, l) :: C) (.inner mo o po .leaf r))
    (K : gx_dk post W T q) : wX_drop_162 post (nI o) rt fr (nI ((D ++ (false, 1, i, q, l) :: C).length + 1)) W.1 W.2.1 W.2.2.1 W.2.2.2.1 W.2.2.2.2.1 (fun qq => ((gx_set G i (lN po, nI mo, (G i).2.2)) qq).1) (fun qq => ((gx_set G i (lN po, nI mo, (G i).2.2)) qq).2.1) (fun qq => ((gx_set G i (lN po, nI mo, (G i).2.2)) qq).2.2.1) (fun qq => ((gx_set G i (lN po, nI mo, (G i).2.2)) qq).2.2.2.1) (fun qq => ((gx_set G i (lN po, nI mo, (G i).2.2)) qq).2.2.2.2.1) (fun qq => ((gx_set G i (lN po, nI mo, (G i).2.2)) qq).2.2.2.2.2.1) (fun qq => ((gx_set G i (lN po, nI mo, (G i).2.2)) qq).2.2.2.2.2.2.1) (fun qq => ((gx_set G i (lN po, nI mo, (G i).2.2)) qq).2.2.2.2.2.2.2) pa W.2.2.2.2.2.1 W.2.2.2.2.2.2.1 W.2.2.2.2.2.2.2.1 W.2.2.2.2.2.2.2.2.1 W.2.2.2.2.2.2.2.2.2 := by
  have I' := I
  obtain ⟨h1, h2, h3, h4, h5, h6, h7, h8, h9, h10, h11, h12⟩ := I'
  obtain ⟨s1, s2, s3, s4, s5, s6, s7⟩ := se
  have ho := s2.1
  rw [gt_hg_i] at s5 s7
  obtain ⟨A, eA⟩ : ∃ A, A = gt_A C ++ gt_il l := ⟨_, rfl⟩
  obtain ⟨B, eB⟩ : ∃ B, B = gt_pl D (gt_il r) ++ gt_B C := ⟨_, rfl⟩
  have eT : gt_il T = A ++ (i, q, 1) :: (o, po, mo) :: B := by
    have e0 : gt_pl D (gt_il (.inner mo o po .leaf r)) = (o, po, mo) :: gt_pl D (gt_il r) := gt_pl_t D _ _ al
    have e1 : gt_pl ((false, 1, i, q, l) :: C) ((o, po, mo) :: gt_pl D (gt_il r)) = gt_pl C (gt_il l ++ (i, q, 1) :: ((o, po, mo) :: gt_pl D (gt_il r))) := rfl
    rw [← s4, gt_pl_ap2, e0, e1, gt_pl_mid, eA, eB, List.cons_append]
  have eN : gt_pl (D ++ (false, mo, i, po, l) :: C) (gt_il r) = A ++ (i, po, mo) :: B := by
    have e1 : gt_pl ((false, mo, i, po, l) :: C) (gt_pl D (gt_il r)) = gt_pl C (gt_il l ++ (i, po, mo) :: gt_pl D (gt_il r)) := rfl
    rw [gt_pl_ap2, e1, gt_pl_mid, eA, eB]
  have h7' := h7
  rw [eT] at h7'
  obtain ⟨_, n8, na, nb, nab⟩ := gt_nd_i h7'
  have nbo : ∀ x ∈ B, x.1 ≠ o := fun x hx => ((List.pairwise_cons.mp n8).1 x hx).symm
  have io : i ≠ o := (nb (o, po, mo) List.mem_cons_self).symm
  have nao : ∀ x ∈ A, x.1 ≠ o := fun x hx => nab x hx (o, po, mo) List.mem_cons_self
  have nB : ∀ x ∈ B, x.1 ≠ i := fun x hx => nb x (List.mem_cons_of_mem _ hx)
  have hPD : ∀ X, (∀ e ∈ gt_pl D X, e.1 ≠ i) → ∀ f ∈ D, f.2.2.1 ≠ i ∧ gt_ni i f.2.2.2.2 := fun X hX f hf => ⟨hX _ (gt_fr_mem D X f hf).1, fun e he => hX e ((gt_fr_mem D X f hf).2 e he)⟩
  have hi : 0 < i ∧ i < 41 := gx_ids T h2 (i, q, 1) (by rw [eT]; exact List.mem_append_right _ List.mem_cons_self)
  have f1 : ∀ x, x ≠ i → gx_set G i (lN po, nI mo, (G i).2.2) x = G x := fun x hx => gx_set_n hx
  have cx1 : gx_cx (gx_set G i (lN po, nI mo, (G i).2.2)) (D ++ (false, mo, i, po, l) :: C) o := by
    refine gx_cx_rep f1 gx_set_s (fun x hx => na x (by rw [eA]; exact List.mem_append_right _ hx)) ?_ D o (hPD (gt_il r) (fun e he => nB e (by rw [eB]; exact List.mem_append_left _ he))) s1
    intro e he
    rcases List.mem_append.mp he with a | a
    · exact na e (by rw [eA]; exact List.mem_append_left _ a)
    · exact nB e (by rw [eB]; exact List.mem_append_right _ a)
  have okr : gx_ok (gx_set G i (lN po, nI mo, (G i).2.2)) r := gx_fr_set s2.2.2.2 (fun x hx => nB x (by rw [eB]; exact List.mem_append_left _ (gt_pl_mem hx)))
  have hlen : (D ++ (false, 1, i, q, l) :: C).length = (D ++ (false, mo, i, po, l) :: C).length := by rw [List.length_append, List.length_append]; rfl
  have nd2 : gt_nd (gt_pl (D ++ (false, mo, i, po, l) :: C) ((o, po, mo) :: gt_il r)) := by
    have e0 : gt_pl D ((o, po, mo) :: gt_il r) = (o, po, mo) :: gt_pl D (gt_il r) := gt_pl_t D _ _ al
    have e1 : gt_pl ((false, mo, i, po, l) :: C) ((o, po, mo) :: gt_pl D (gt_il r)) = gt_pl C (gt_il l ++ (i, po, mo) :: ((o, po, mo) :: gt_pl D (gt_il r))) := rfl
    rw [gt_pl_ap2, e0, e1, gt_pl_mid, List.cons_append, ← eA, ← eB]
    exact gt_pw_sub h7' (fun x _ h => h) (fun x _ h => h)
  have nP : ∀ e ∈ A ++ (i, po, mo) :: B, e.1 ≠ o := by
    intro e he
    rcases List.mem_append.mp he with a | a
    · exact nao e a
    · rcases List.mem_cons.mp a with b | b
      · rw [b]; exact io
      · exact nbo e b
  have soN : gt_so (A ++ (i, po, mo) :: B) := by
    rw [eT] at h4
    exact gt_pw_sub (gt_pw_del h4) (fun x _ h => h) (fun x _ h => h)
  have ndN : gt_nd (A ++ (i, po, mo) :: B) := by
    have e : A ++ (i, q, 1) :: (o, po, mo) :: B = (A ++ [(i, q, 1)]) ++ (o, po, mo) :: B := by rw [List.append_assoc]; rfl
    rw [e] at h7'
    have h := gt_pw_del h7'
    rw [List.append_assoc] at h
    exact gt_pw_sub (e := (i, q, 1)) h (fun x _ h => h) (fun x _ h => h)
  rw [hlen] at s7 ⊢
  unfold wX_drop_162
  have i1 : gx_set G i (lN po, nI mo, (G i).2.2) o = G o := f1 o io.symm
  refine gx_takeOut (W := W) (rt := rt) (fr := fr) (G := gx_set G i (lN po, nI mo, (G i).2.2)) (pa := pa) (a := 0) (b := gt_rp r) (po := po) (mo := mo) (c := r) (C := D ++ (false, mo, i, po, l) :: C) (by rw [f1 0 (by omega), h1]) ho (by rw [i1, s2.2.1]; rfl) (by rw [i1, s2.2.1]; rfl) (by omega) (Or.inl ⟨rfl, rfl⟩) okr cx1 (gx_pa_rep D s3) nd2 (by omega) ?_
  intro rt' G' z' ok' cx' hr' hf' f'
  dsimp only
  refine gx_mend (W := W) (rt := rt') (G := G') (pa := pa) (C := D ++ (false, mo, i, po, l) :: C) (t := r) (h := 1 + max (gt_hg .leaf) (gt_hg r)) rfl z' ok' s6.2.2 ?_ (gt_cb_rep D _ s5) cx' (gx_pa_rep D s3) ?_ ?_ (by omega) hr' ?_
  · show 1 + max 0 (gt_hg r) ≤ _ ∧ _ ≤ 1 + max 0 (gt_hg r) + 1
    omega
  · rw [eN]; exact ndN
  · rw [eN, List.length_append, List.length_cons]
    rw [eT, List.length_append, List.length_cons, List.length_cons] at h12
    omega
  intro T' G'' z'' ok'' av'' il'' f''
  rw [eN] at il'' f'' f'
  refine K T' G'' (nI o) _ (o :: F) pa (gx_inv_del I ?_ ?_ ?_ ⟨(o, po, mo), by rw [eT]; exact List.mem_append_right _ (List.mem_cons_of_mem _ List.mem_cons_self), rfl⟩ ?_ ?_ z'' ok'' av'' ?_ ?_) ?_
  · rw [il'']; exact soN
  · rw [il'']; exact ndN
  · intro x hx
    rw [il''] at hx
    have hn := nP x hx
    rcases List.mem_append.mp hx with a | a
    · have hx' : x ∈ gt_il T := by rw [eT]; exact List.mem_append_left _ a
      exact ⟨(h5 x hx').1, (h5 x hx').2, hn, x, hx', rfl⟩
    · rcases List.mem_cons.mp a with b | b
      · have hx' : (o, po, mo) ∈ gt_il T := by rw [eT]; exact List.mem_append_right _ (List.mem_cons_of_mem _ List.mem_cons_self)
        have hx2 : (i, q, 1) ∈ gt_il T := by rw [eT]; exact List.mem_append_right _ List.mem_cons_self
        rw [b]
        exact ⟨(h5 _ hx').1, (h5 _ hx').2, io, _, hx2, rfl⟩
      · have hx' : x ∈ gt_il T := by rw [eT]; exact List.mem_append_right _ (List.mem_cons_of_mem _ (List.mem_cons_of_mem _ b))
        exact ⟨(h5 x hx').1, (h5 x hx').2, hn, x, hx', rfl⟩
  · rw [il'', gt_tot_ap]
    rw [eT, gt_tot_ap] at h6
    have h6' : gt_tot A + (1 + (mo + gt_tot B)) ≤ 40 := h6
    show gt_tot A + (mo + gt_tot B) ≤ 40
    omega
  · rw [il'', eT, List.length_append, List.length_append, List.length_cons, List.length_cons, List.length_cons]
    omega
  · rw [f'' o nP, hf']
  · intro x h1 h2
    rw [il''] at h2
    rw [f'' x h2, f' x h1 h2, f1 x]
    exact (h2 (i, po, mo) (List.mem_append_right _ List.mem_cons_self)).symm
  · rw [il'', eT]; exact gt_ft_mv A B i q o po mo
theorem gx_drop73 {post : SX → Prop} {T : gt_T} {F : List Nat} {C : List gt_F} {m i q : Nat} {l r : gt_T} (I : gx_inv fr G T F) (se : gx_se G pa (gt_il T) C (.inner m i q l r)) (K : gx_dk post W T q) :
    wX_drop_73 post (nI i) rt fr (nI C.length) W.1 W.2.1 W.2.2.1 W.2.2.2.1 W.2.2.2.2.1 (fun qq => (G qq).1) (fun qq => (G qq).2.1) (fun qq => (G qq).2.2.1) (fun qq => (G qq).2.2.2.1) (fun qq => (G qq).2.2.2.2.1) (fun qq => (G qq).2.2.2.2.2.1) (fun qq => (G qq).2.2.2.2.2.2.1) (fun qq => (G qq).2.2.2.2.2.2.2) pa W.2.2.2.2.2.1 W.2.2.2.2.2.2.1 W.2.2.2.2.2.2.2.1 W.2.2.2.2.2.2.2.2.1 W.2.2.2.2.2.2.2.2.2 := by
  have hi := se.2.1.1
  have hG := se.2.1.2.1
  have v := ga_in hi.2
  have hin : (i, q, m) ∈ gt_il T := by rw [← se.2.2.2.1]; exact gt_pl_mem gt_in_r
  have hm1 := (I.2.2.2.2.1 _ hin).2
  dsimp only at hm1
  have hm : m ≤ 40 := by
    have h6 := I.2.2.2.2.2.1
    obtain ⟨A, B, e⟩ := List.append_of_mem hin
    rw [e, gt_tot_ap] at h6
    have : gt_tot A + (m + gt_tot B) ≤ 40 := h6
    omega
  have hlen := se.2.2.2.2.2.2
  rw [gt_hg_i] at hlen
  have eM : (G i).2.1 = nI m := by rw [hG]; rfl
  have eL : (G i).2.2.1 = nI (gt_rp l) := by rw [hG]; rfl
  have eR : (G i).2.2.2.1 = nI (gt_rp r) := by rw [hG]; rfl
  have se1 : gx_se G (upd pa C.length (nI i)) (gt_il T) C (.inner m i q l r) := ⟨se.1, se.2.1, gx_pa_up C _ (Nat.le_refl _) se.2.2.1, se.2.2.2⟩
  unfold wX_drop_73
  refine br_f (gx_ne0 hi) ?_
  refine gx_step (W := W) (rt := rt) (fr := fr) (G := G) (pa := pa) (d := C.length) (by omega) ?_
  dsimp only
  rw [ga_cl hi.2]
  refine ⟨v, pk_le m 1 (fun c => ⟨v, ?_⟩) (fun c => ⟨v, v, ?_⟩) eM rfl (by omega) (by omega)⟩
  · have m1 : m = 1 := by omega
    subst m1
    cases l with
    | leaf => exact br_t eL (gx_drop1 I se1 (Or.inl ⟨rfl, rfl⟩) K)
    | inner ml jl pl ll rl =>
      refine br_f (by rw [eL]; exact gx_ne0 se.2.1.2.2.1.1) ⟨v, ?_⟩
      cases r with
      | leaf => exact br_t eR (gx_drop1 I se1 (Or.inr ⟨rfl, by have := se.2.1.2.2.1.1; show jl ≠ 0; omega, rfl⟩) K)
      | inner mr jr pr lr rr =>
        refine br_f (by rw [eR]; exact gx_ne0 se.2.1.2.2.2.1) ?_
        refine gx_goNext (W := W) (rt := rt) (fr := fr) (G := G) (pa := upd pa C.length (nI i)) se1 pk_us ?_
        intro mo o po r' D pa' al se2 hp2
        dsimp only
        have ho := se2.2.1.1
        have vo := ga_in ho.2
        have oM : (G o).2.1 = nI mo := by rw [se2.2.1.2.1]; rfl
        have oP : (G o).1 = lN po := by rw [se2.2.1.2.1]; rfl
        rw [ga_cl ho.2, oM, oP]
        refine ⟨vo, v, nm_e ⟨vo, v, nm_e ?_⟩⟩
        have fin := gx_drop2 (rt := rt) I al se2 K
        unfold wX_drop_162 at fin ⊢
        exact gx_to (G := gx_set G i (lN po, nI mo, (G i).2.2)) (fun u => wpX_takeOut _ u (nI o)) fin (gx_wL (fun c => c.1) rfl) (gx_w1 (fun c => c.2.1) rfl) (gx_k1 (fun c => c.2.2.1) rfl) (gx_k1 (fun c => c.2.2.2.1) rfl) (gx_k1 (fun c => c.2.2.2.2.1) rfl) (gx_k1 (fun c => c.2.2.2.2.2.1) rfl) (gx_k1 (fun c => c.2.2.2.2.2.2.1) rfl) (gx_k1 (fun c => c.2.2.2.2.2.2.2) rfl)
  · refine nm_r (e' := upd (fun qq => (G qq).2.1) i (nI (m - 1))) (by show upd _ _ ((G i).2.1 - 1) = _; rw [eM, ga_s1 (by omega)]) (gx_toM (G := G) (fun u => wpX_mendPath _ u) ?_)
    refine gx_chg (F := F) (T := T) (m := m) (q := q) (l := l) (r := r) I se1 pk_us (by omega) (by have := I.2.2.2.2.2.1; omega) ?_
    intro T' G' A B I' e1 e2
    refine K T' G' _ _ F _ I' ?_
    rw [e1, e2]
    have h := gt_ft_up A B i q (m - 1)
    rw [show m - 1 + 1 = m from by omega] at h
    exact h
theorem gx_drop13 {post : SX → Prop} {q : Nat} {L : List gt_E} (hq : q < 34359738368) (so : gt_so L) (pb : ∀ x ∈ L, x.2.1 < 34359738368) (hin : ∃ x ∈ L, x.2.1 = q)
    (KF : ∀ (C : List gt_F) (pa : Nat → Int32) (m i : Nat) (l r : gt_T), gx_se G pa L C (.inner m i q l r) → wX_drop_73 post (nI i) rt fr (nI C.length) W.1 W.2.1 W.2.2.1 W.2.2.2.1 W.2.2.2.2.1 (fun qq => (G qq).1) (fun qq => (G qq).2.1) (fun qq => (G qq).2.2.1) (fun qq => (G qq).2.2.2.1) (fun qq => (G qq).2.2.2.2.1) (fun qq => (G qq).2.2.2.2.2.1) (fun qq => (G qq).2.2.2.2.2.2.1) (fun qq => (G qq).2.2.2.2.2.2.2) pa W.2.2.2.2.2.1 W.2.2.2.2.2.2.1 W.2.2.2.2.2.2.2.1 W.2.2.2.2.2.2.2.2.1 W.2.2.2.2.2.2.2.2.2) :
    ∀ (t : gt_T) (C : List gt_F) (n : Nat) (pa : Nat → Int32), gx_se G pa L C t → gt_ab q C → gt_hg t < n → wX_drop_13 post (lN q) n (nI (gt_rp t)) (nI C.length) rt fr (nI C.length) W.1 W.2.1 W.2.2.1 W.2.2.2.1 W.2.2.2.2.1 (fun qq => (G qq).1) (fun qq => (G qq).2.1) (fun qq => (G qq).2.2.1) (fun qq => (G qq).2.2.2.1) (fun qq => (G qq).2.2.2.2.1) (fun qq => (G qq).2.2.2.2.2.1) (fun qq => (G qq).2.2.2.2.2.2.1) (fun qq => (G qq).2.2.2.2.2.2.2) pa W.2.2.2.2.2.1 W.2.2.2.2.2.2.1 W.2.2.2.2.2.2.2.1 W.2.2.2.2.2.2.2.2.1 W.2.2.2.2.2.2.2.2.2 := by
  intro t
  induction t with
  | leaf =>
    intro C n pa se ab hn
    obtain ⟨x, hx, ex⟩ := hin
    rw [← se.2.2.2.1] at hx
    have hx' : x ∈ gt_pl C [] := hx
    rw [gt_pl_nil] at hx'
    rcases List.mem_append.mp hx' with a | a
    · have := ab.1 x a; omega
    · have := ab.2 x a; omega
  | inner m i p l r ihl ihr =>
    intro C n pa se ab hn
    obtain ⟨n, rfl⟩ : ∃ a, n = a + 1 := ⟨n - 1, by omega⟩
    rw [gt_hg_i] at hn
    have hi := se.2.1.1
    have hG := se.2.1.2.1
    have hc : C.length + 1 ≤ 15 := by have := se.2.2.2.2.2.2; rw [gt_hg_i] at this; omega
    have eP : (G (nI i).toNatClampNeg).1 = lN p := by rw [ga_cl hi.2, hG]; rfl
    have eL : (G (nI i).toNatClampNeg).2.2.1 = nI (gt_rp l) := by rw [ga_cl hi.2, hG]; rfl
    have eR : (G (nI i).toNatClampNeg).2.2.2.1 = nI (gt_rp r) := by rw [ga_cl hi.2, hG]; rfl
    have v := ga_in hi.2
    have hp : p < 34359738368 := pb (i, p, m) (by rw [← se.2.2.2.1]; exact gt_pl_mem gt_in_r)
    have so' : gt_so (gt_pl C (gt_il (.inner m i p l r))) := by rw [se.2.2.2.1]; exact so
    refine br_f (gx_16 (by omega)) (br_f (gx_ne0 hi) ⟨v, ?_⟩)
    by_cases c0 : p = q
    · subst c0
      exact br_t eP (KF C pa m i l r se)
    · refine br_f (by show ¬ (G (nI i).toNatClampNeg).1 = lN q; rw [eP]; exact fun e => c0 ((pk_lEQ (by omega) (by omega)).mp e)) ?_
      refine gx_step (W := W) (rt := rt) (fr := fr) (G := G) (pa := pa) (by omega) ?_
      dsimp only
      refine ⟨v, ?_⟩
      by_cases c : p ≤ q
      · refine br_t (by show (G (nI i).toNatClampNeg).1 ≤ lN q; rw [eP]; exact (pk_lLE (by omega) (by omega)).mpr c) ⟨v, nm_r eR (nm_r (nI_1 _) ?_)⟩
        exact ihr _ n _ (gx_se_r se pk_us (gx_pa_up C _ (Nat.le_refl _) se.2.2.1)) (gt_ab_r ab so' (by omega)) (by omega)
      · refine br_f (by show ¬ (G (nI i).toNatClampNeg).1 ≤ lN q; rw [eP]; exact fun e => c ((pk_lLE (by omega) (by omega)).mp e)) ⟨v, nm_r eL (nm_r (nI_1 _) ?_)⟩
        exact ihl _ n _ (gx_se_l se pk_us (gx_pa_up C _ (Nat.le_refl _) se.2.2.1)) (gt_ab_l ab so' (by omega)) (by omega)
theorem gx_drop {post : SX → Prop} {T : gt_T} {F : List Nat} {q : Nat} (I : gx_inv fr G T F) (hin : ∃ x ∈ gt_il T, x.2.1 = q) (K : gx_dk post W T q) :
    wpX_drop post (gx_s W (nI (gt_rp T)) fr dp G pa) (lN q) := by
  have I' := I
  obtain ⟨h1, h2, h3, h4, h5, h6, h7, h8, h9, h10, h11, h12⟩ := I'
  have hgt := gt_av_15 h3 (by omega)
  have hq : q < 34359738368 := by
    obtain ⟨x, hx, e⟩ := hin
    rw [← e]; exact (h5 x hx).1
  exact ⟨17, gx_drop13 (L := gt_il T) hq h4 (fun x hx => (h5 x hx).1) hin (fun C pa' m i l r se => gx_drop73 I se K) T [] 17 pa ⟨trivial, h2, trivial, rfl, trivial, h3, by show 0 + _ ≤ 15; omega⟩ ⟨fun x hx => absurd hx List.not_mem_nil, fun x hx => absurd hx List.not_mem_nil⟩ (by omega)⟩
end gxe
end
section
/-! rows (key, value) and groups: pure -/
abbrev gr_R : Type := Int32 × Int32
def gr_cnt (k : Int32) (L : List gr_R) : Nat := L.countP (fun r => decide (r.1 = k))
def gr_sum (k : Int32) : List gr_R → Int32
  | [] => 0
  | r :: L => (if r.1 = k then r.2 else 0) + gr_sum k L
def gr_low (k v : Int32) (L : List gr_R) : Nat := L.countP (fun r => decide (r.1 = k ∧ r.2 < v))
def gr_eqc (k v : Int32) (L : List gr_R) : Nat := L.countP (fun r => decide (r.1 = k ∧ r.2 = v))
def gr_U (L : List gr_R) : List gr_R := L.foldl (fun acc r => if r ∈ acc then acc else acc ++ [r]) []
def gr_df (k : Int32) (L : List gr_R) : Nat := gr_cnt k (gr_U L)
def gr_is (k : Int32) (j : Nat) (L : List gr_R) (v : Int32) : Prop := (k, v) ∈ L ∧ gr_low k v L ≤ j ∧ j < gr_low k v L + gr_eqc k v L
noncomputable def gr_rk (k : Int32) (j : Nat) (L : List gr_R) : Int32 := Classical.epsilon (fun v => gr_is k j L v)
noncomputable def gr_nw (k : Int32) (L : List gr_R) (f : Nat) : Int32 :=
  if gr_cnt k L = 0 then 0 else if f = 0 then nI (gr_cnt k L) else if f = 1 then gr_sum k L else if f = 2 then gr_rk k 0 L else if f = 3 then gr_rk k (gr_cnt k L - 1) L
  else if f = 4 then nI (gr_df k L) else if f = 5 then gr_rk k ((gr_cnt k L - 1) / 2) L else 0
def gr_sh (fl ce k : Int32) (L : List gr_R) : Int32 := if gr_cnt k L = 0 then 0 else if nI (gr_cnt k L) < fl then 0 else if ce < nI (gr_df k L) then 0 else 1
theorem gr_low_up {k v v' : Int32} (h : v < v') : ∀ L : List gr_R, gr_low k v L + gr_eqc k v L ≤ gr_low k v' L := by
  intro L
  induction L with
  | nil => exact Nat.le_refl 0
  | cons r L ih =>
    unfold gr_low gr_eqc at ih ⊢
    rw [List.countP_cons, List.countP_cons, List.countP_cons]
    simp only [decide_eq_true_eq]
    by_cases c : r.1 = k
    · by_cases d : r.2 < v
      · have d2 : r.2 < v' := Int32.lt_trans d h
        have d3 : ¬ r.2 = v := fun e => Int32.lt_irrefl (by rw [e] at d; exact d)
        rw [if_pos ⟨c, d⟩, if_neg (fun e => d3 e.2), if_pos ⟨c, d2⟩]
        omega
      · by_cases d3 : r.2 = v
        · rw [if_neg (fun e => d e.2), if_pos ⟨c, d3⟩, if_pos ⟨c, by rw [d3]; exact h⟩]
          omega
        · rw [if_neg (fun e => d e.2), if_neg (fun e => d3 e.2)]
          omega
    · rw [if_neg (fun e => c e.1), if_neg (fun e => c e.1)]
      omega
theorem gr_is_u {k : Int32} {j : Nat} {L : List gr_R} {v v' : Int32} (h : gr_is k j L v) (h' : gr_is k j L v') : v = v' := by
  by_cases c : v < v'
  · have := gr_low_up (k := k) c L
    have a := h.2.2
    have b := h'.2.1
    omega
  · by_cases d : v' < v
    · have := gr_low_up (k := k) d L
      have a := h'.2.2
      have b := h.2.1
      omega
    · exact Int32.le_antisymm (Int32.not_lt.mp d) (Int32.not_lt.mp c)
theorem gr_rk_eq {k : Int32} {j : Nat} {L : List gr_R} {v : Int32} (h : gr_is k j L v) : gr_rk k j L = v :=
  gr_is_u (Classical.epsilon_spec (p := fun v => gr_is k j L v) ⟨v, h⟩) h
/-! the different rows -/
theorem gr_U_sn (L : List gr_R) (r : gr_R) : gr_U (L ++ [r]) = if r ∈ gr_U L then gr_U L else gr_U L ++ [r] := by
  unfold gr_U
  rw [List.foldl_append]
  rfl
theorem gr_sn_ind {P : List gr_R → Prop} (h0 : P []) (hs : ∀ L r, P L → P (L ++ [r])) : ∀ L, P L := by
  have h : ∀ (n : Nat) (L : List gr_R), L.length = n → P L := by
    intro n
    induction n with
    | zero => intro L e; rw [List.eq_nil_of_length_eq_zero e]; exact h0
    | succ n ih =>
      intro L e
      rcases List.eq_nil_or_concat L with a | ⟨M, r, a⟩
      · rw [a]; exact h0
      · rw [a, List.concat_eq_append] at e ⊢
        refine hs M r (ih M ?_)
        rw [List.length_append, List.length_singleton] at e
        omega
  intro L
  exact h _ L rfl
theorem gr_U_mem : ∀ (L : List gr_R) (x : gr_R), x ∈ gr_U L ↔ x ∈ L := by
  intro L
  refine gr_sn_ind (P := fun L => ∀ x, x ∈ gr_U L ↔ x ∈ L) (fun x => Iff.rfl) ?_ L
  intro L r ih x
  rw [gr_U_sn]
  by_cases c : r ∈ gr_U L
  · rw [if_pos c, ih, List.mem_append, List.mem_singleton]
    constructor
    · exact Or.inl
    · intro h
      rcases h with h | h
      · exact h
      · rw [h]; exact (ih r).mp c
  · rw [if_neg c, List.mem_append, List.mem_append, ih]
theorem gr_U_nd : ∀ L : List gr_R, (gr_U L).Nodup := by
  intro L
  refine gr_sn_ind (P := fun L => (gr_U L).Nodup) List.nodup_nil ?_ L
  intro L r ih
  show (gr_U (L ++ [r])).Nodup
  rw [gr_U_sn]
  by_cases c : r ∈ gr_U L
  · rw [if_pos c]; exact ih
  · rw [if_neg c]
    refine List.pairwise_append.mpr ⟨ih, List.pairwise_singleton _ _, ?_⟩
    intro a ha b hb e
    rw [List.mem_singleton.mp hb] at e
    rw [e] at ha
    exact c ha
theorem gr_df_sn (k : Int32) (L : List gr_R) (r : gr_R) : gr_df k (L ++ [r]) = gr_df k L + if r.1 = k ∧ ¬ r ∈ L then 1 else 0 := by
  unfold gr_df
  rw [gr_U_sn]
  by_cases c : r ∈ gr_U L
  · rw [if_pos c, if_neg (fun e => e.2 ((gr_U_mem L r).mp c))]
    rfl
  · rw [if_neg c]
    unfold gr_cnt
    rw [List.countP_append, List.countP_singleton]
    have c' : ¬ r ∈ L := fun e => c ((gr_U_mem L r).mpr e)
    simp only [decide_eq_true_eq, c', not_false_eq_true, and_true]
/-! a group depends on its own rows alone, in any order -/
theorem gr_sum_f (k : Int32) : ∀ L : List gr_R, gr_sum k (L.filter (fun r => decide (r.1 = k))) = gr_sum k L := by
  intro L
  induction L with
  | nil => rfl
  | cons r L ih =>
    by_cases c : r.1 = k
    · rw [List.filter_cons_of_pos (by simp [c])]
      show _ + _ = _ + _
      rw [ih]
    · rw [List.filter_cons_of_neg (by simp [c])]
      show _ = (if r.1 = k then r.2 else 0) + gr_sum k L
      rw [if_neg c, ih, Int32.zero_add]
theorem gr_sum_p (k : Int32) {L M : List gr_R} (h : List.Perm L M) : gr_sum k L = gr_sum k M := by
  induction h with
  | nil => rfl
  | cons x h ih => show _ + _ = _ + _; rw [ih]
  | swap x y l =>
    show (if y.1 = k then y.2 else 0) + ((if x.1 = k then x.2 else 0) + gr_sum k l) = (if x.1 = k then x.2 else 0) + ((if y.1 = k then y.2 else 0) + gr_sum k l)
    rw [← Int32.add_assoc, ← Int32.add_assoc, Int32.add_comm (if y.1 = k then y.2 else 0)]
  | trans h1 h2 i1 i2 => rw [i1, i2]
section grc
variable {k : Int32} {L M : List gr_R} (h : List.Perm (L.filter (fun r => decide (r.1 = k))) (M.filter (fun r => decide (r.1 = k))))
theorem gr_c_cnt (h : List.Perm (L.filter (fun r => decide (r.1 = k))) (M.filter (fun r => decide (r.1 = k)))) : gr_cnt k L = gr_cnt k M := by
  unfold gr_cnt
  rw [List.countP_eq_length_filter, List.countP_eq_length_filter]
  exact h.length_eq
theorem gr_c_sum (h : List.Perm (L.filter (fun r => decide (r.1 = k))) (M.filter (fun r => decide (r.1 = k)))) : gr_sum k L = gr_sum k M := by
  rw [← gr_sum_f k L, ← gr_sum_f k M]
  exact gr_sum_p k h
theorem gr_cf (p : gr_R → Bool) (hp : ∀ r, p r = true → r.1 = k) (h : List.Perm (L.filter (fun r => decide (r.1 = k))) (M.filter (fun r => decide (r.1 = k)))) : L.countP p = M.countP p := by
  have e : ∀ N : List gr_R, N.countP p = (N.filter (fun r => decide (r.1 = k))).countP p := by
    intro N
    rw [List.countP_filter]
    refine List.countP_congr (fun r _ => ?_)
    rw [Bool.and_eq_true, decide_eq_true_eq]
    exact ⟨fun a => ⟨a, hp r a⟩, fun a => a.1⟩
  rw [e L, e M]
  exact h.countP_eq p
theorem gr_c_mem (h : List.Perm (L.filter (fun r => decide (r.1 = k))) (M.filter (fun r => decide (r.1 = k)))) {r : gr_R} (hr : r.1 = k) : r ∈ L ↔ r ∈ M := by
  have a : r ∈ L.filter (fun r => decide (r.1 = k)) ↔ r ∈ M.filter (fun r => decide (r.1 = k)) := h.mem_iff
  rw [List.mem_filter, List.mem_filter] at a
  simp only [hr, decide_true, and_true] at a
  exact a
theorem gr_c_is (h : List.Perm (L.filter (fun r => decide (r.1 = k))) (M.filter (fun r => decide (r.1 = k)))) (j : Nat) (v : Int32) : gr_is k j L v ↔ gr_is k j M v := by
  unfold gr_is
  have e1 : gr_low k v L = gr_low k v M := gr_cf _ (fun r hr => (of_decide_eq_true hr).1) h
  have e2 : gr_eqc k v L = gr_eqc k v M := gr_cf _ (fun r hr => (of_decide_eq_true hr).1) h
  rw [e1, e2, gr_c_mem h (r := (k, v)) rfl]
theorem gr_c_rk (h : List.Perm (L.filter (fun r => decide (r.1 = k))) (M.filter (fun r => decide (r.1 = k)))) (j : Nat) : gr_rk k j L = gr_rk k j M := by
  unfold gr_rk
  exact congrArg Classical.epsilon (funext fun v => propext (gr_c_is h j v))
theorem gr_c_df (h : List.Perm (L.filter (fun r => decide (r.1 = k))) (M.filter (fun r => decide (r.1 = k)))) : gr_df k L = gr_df k M := by
  refine gr_c_cnt ?_
  refine (List.perm_ext_iff_of_nodup ((gr_U_nd L).sublist List.filter_sublist) ((gr_U_nd M).sublist List.filter_sublist)).mpr (fun r => ?_)
  rw [List.mem_filter, List.mem_filter, gr_U_mem, gr_U_mem]
  by_cases c : r.1 = k
  · rw [gr_c_mem h c]
  · simp only [c, decide_false, Bool.false_eq_true, and_false]
theorem gr_c_nw (h : List.Perm (L.filter (fun r => decide (r.1 = k))) (M.filter (fun r => decide (r.1 = k)))) (f : Nat) : gr_nw k L f = gr_nw k M f := by
  unfold gr_nw
  rw [gr_c_cnt h, gr_c_sum h, gr_c_rk h, gr_c_rk h, gr_c_rk h, gr_c_df h]
theorem gr_c_sh (h : List.Perm (L.filter (fun r => decide (r.1 = k))) (M.filter (fun r => decide (r.1 = k)))) (fl ce : Int32) : gr_sh fl ce k L = gr_sh fl ce k M := by
  unfold gr_sh
  rw [gr_c_cnt h, gr_c_df h]
end grc
end
section
/-! rows as places -/
def gr_en (r : gr_R) : Nat := ga_pc r.1.toNatClampNeg r.2
def gr_ok (L : List gr_R) : Prop := ∀ r ∈ L, ∃ k, k < 8 ∧ r.1 = nI k
theorem gr_en_n {k : Nat} (hk : k < 8) (v : Int32) : gr_en (nI k, v) = ga_pc k v := by
  show ga_pc (nI k).toNatClampNeg v = _
  rw [nI_clamp (by omega)]
theorem gr_en_inj {r r' : gr_R} (h : ∃ k, k < 8 ∧ r.1 = nI k) (h' : ∃ k, k < 8 ∧ r'.1 = nI k) (e : gr_en r = gr_en r') : r = r' := by
  obtain ⟨a, v⟩ := r
  obtain ⟨b, w⟩ := r'
  obtain ⟨k, hk, e1⟩ := h
  obtain ⟨k', hk', e2⟩ := h'
  dsimp only at e1 e2
  subst e1 e2
  rw [gr_en_n hk, gr_en_n hk'] at e
  obtain ⟨e3, e4⟩ := ga_pcinj e
  rw [e3, e4]
theorem gr_en_lt {r : gr_R} (h : ∃ k, k < 8 ∧ r.1 = nI k) : gr_en r < 34359738368 := by
  obtain ⟨a, v⟩ := r
  obtain ⟨k, hk, e1⟩ := h
  dsimp only at e1
  subst e1
  rw [gr_en_n hk]
  exact ga_pclt hk v
theorem gr_split {k : Nat} (hk : k < 8) (q : Nat) (P : gr_R → Prop) [DecidablePred P] (hP : ∀ v, (gr_en (nI k, v) < q) ↔ P (nI k, v)) (hP1 : ∀ r, P r → r.1 = nI k) (hlo : k * 4294967296 ≤ q) (hhi : q ≤ (k + 1) * 4294967296) :
    ∀ L : List gr_R, gr_ok L → L.countP (fun r => decide (gr_en r < q)) = L.countP (fun r => decide (gr_en r < k * 4294967296)) + L.countP (fun r => decide (P r)) := by
  intro L
  induction L with
  | nil => intro _; rfl
  | cons r L ih =>
    intro ho
    have ih' := ih (fun x hx => ho x (List.mem_cons_of_mem _ hx))
    obtain ⟨a, v⟩ := r
    obtain ⟨j, hj, e⟩ := ho _ List.mem_cons_self
    dsimp only at e
    subst e
    rw [List.countP_cons, List.countP_cons, List.countP_cons]
    simp only [decide_eq_true_eq]
    have hb := ga_pclo j v
    rw [gr_en_n hj]
    by_cases c : j = k
    · subst c
      rw [if_neg (show ¬ ga_pc j v < j * 4294967296 by omega)]
      have h := hP v
      rw [gr_en_n hj] at h
      by_cases d : ga_pc j v < q
      · rw [if_pos d, if_pos (h.mp d)]; omega
      · rw [if_neg d, if_neg (fun x => d (h.mpr x))]; omega
    · have np : ¬ P (nI j, v) := fun x => c (ga_im (hP1 _ x) (by omega) (by omega))
      rw [if_neg np]
      by_cases d : j < k
      · have h1 : (j + 1) * 4294967296 ≤ k * 4294967296 := Nat.mul_le_mul_right _ d
        rw [if_pos (show ga_pc j v < q by omega), if_pos (show ga_pc j v < k * 4294967296 by omega)]; omega
      · have h1 : (k + 1) * 4294967296 ≤ j * 4294967296 := Nat.mul_le_mul_right _ (by omega)
        rw [if_neg (show ¬ ga_pc j v < q by omega), if_neg (show ¬ ga_pc j v < k * 4294967296 by omega)]; omega
theorem gr_splitV {k : Nat} (hk : k < 8) (v : Int32) {L : List gr_R} (h : gr_ok L) : L.countP (fun r => decide (gr_en r < ga_pc k v)) = L.countP (fun r => decide (gr_en r < k * 4294967296)) + gr_low (nI k) v L := by
  have hb := ga_pclo k v
  refine gr_split hk (ga_pc k v) (fun r => r.1 = nI k ∧ r.2 < v) (fun w => ?_) (fun r x => x.1) hb.1 (by omega) L h
  rw [gr_en_n hk, ga_pcltv]
  exact ⟨fun x => ⟨rfl, x⟩, fun x => x.2⟩
theorem gr_splitB {k : Nat} (hk : k < 8) {L : List gr_R} (h : gr_ok L) : L.countP (fun r => decide (gr_en r < (k + 1) * 4294967296)) = L.countP (fun r => decide (gr_en r < k * 4294967296)) + gr_cnt (nI k) L := by
  refine gr_split hk ((k + 1) * 4294967296) (fun r => r.1 = nI k) (fun w => ?_) (fun r x => x) (by omega) (by omega) L h
  rw [gr_en_n hk]
  have hb := ga_pclo k w
  exact ⟨fun _ => rfl, fun _ => hb.2⟩
theorem gr_eqE {k : Nat} (hk : k < 8) (v : Int32) {L : List gr_R} (h : gr_ok L) : L.countP (fun r => decide (gr_en r = ga_pc k v)) = gr_eqc (nI k) v L := by
  refine List.countP_congr (fun r hr => ?_)
  rw [decide_eq_true_eq, decide_eq_true_eq]
  rw [← gr_en_n hk]
  constructor
  · intro e
    rw [gr_en_inj (h r hr) ⟨k, hk, rfl⟩ e]
    exact ⟨rfl, rfl⟩
  · intro e
    obtain ⟨a, w⟩ := r
    obtain ⟨e1, e2⟩ := e
    dsimp only at e1 e2
    rw [e1, e2]
/-! the tree's list against the rows -/
theorem gt_rb_ft (q : Nat) : ∀ E : List gt_E, gt_rb q E = (gt_ft E).countP (fun s => decide (s < q)) := by
  intro E
  induction E with
  | nil => rfl
  | cons x E ih =>
    rw [gt_ft_c, List.countP_append, ← ih, List.countP_replicate]
    show (if x.2.1 < q then x.2.2 else 0) + gt_rb q E = _
    simp only [decide_eq_true_eq]
theorem gt_tm_ft (q : Nat) : ∀ E : List gt_E, gt_tm q E = (gt_ft E).countP (fun s => decide (s = q)) := by
  intro E
  induction E with
  | nil => rfl
  | cons x E ih =>
    rw [gt_ft_c, List.countP_append, ← ih, List.countP_replicate]
    show (if x.2.1 = q then x.2.2 else 0) + gt_tm q E = _
    simp only [decide_eq_true_eq]
theorem gt_tot_ft : ∀ E : List gt_E, gt_tot E = (gt_ft E).length := by
  intro E
  induction E with
  | nil => rfl
  | cons x E ih =>
    rw [gt_ft_c, List.length_append, ← ih, List.length_replicate]
    rfl
def gr_ps (q : Nat) : List Nat → Int32
  | [] => 0
  | s :: S => (if s < q then ga_vl s else 0) + gr_ps q S
theorem gr_ps_ap (q : Nat) (S R : List Nat) : gr_ps q (S ++ R) = gr_ps q S + gr_ps q R := by
  induction S with
  | nil => show gr_ps q R = 0 + gr_ps q R; rw [Int32.zero_add]
  | cons x S ih => show _ + gr_ps q (S ++ R) = _ + gr_ps q S + gr_ps q R; rw [ih, Int32.add_assoc]
theorem gr_ps_p (q : Nat) {L M : List Nat} (h : List.Perm L M) : gr_ps q L = gr_ps q M := by
  induction h with
  | nil => rfl
  | cons x h ih => show _ + _ = _ + _; rw [ih]
  | swap x y l =>
    show (if y < q then ga_vl y else 0) + ((if x < q then ga_vl x else 0) + gr_ps q l) = (if x < q then ga_vl x else 0) + ((if y < q then ga_vl y else 0) + gr_ps q l)
    rw [← Int32.add_assoc, ← Int32.add_assoc, Int32.add_comm (if y < q then ga_vl y else 0)]
  | trans h1 h2 i1 i2 => rw [i1, i2]
theorem gr_ps_rep (q p m : Nat) : gr_ps q (List.replicate m p) = if p < q then nI m * ga_vl p else 0 := by
  induction m with
  | zero =>
    show (0 : Int32) = _
    rw [nI_0, Int32.zero_mul]
    split <;> rfl
  | succ m ih =>
    rw [List.replicate_succ]
    show (if p < q then ga_vl p else 0) + gr_ps q (List.replicate m p) = _
    rw [ih]
    by_cases c : p < q
    · rw [if_pos c, if_pos c, if_pos c, nI_succ, Int32.add_mul, Int32.one_mul, Int32.add_comm]
    · rw [if_neg c, if_neg c, if_neg c]; rfl
theorem gt_sb_ft (q : Nat) : ∀ E : List gt_E, gt_sb q E = gr_ps q (gt_ft E) := by
  intro E
  induction E with
  | nil => rfl
  | cons x E ih =>
    rw [gt_ft_c, gr_ps_ap, ← ih, gr_ps_rep]
    rfl
theorem gr_ps_sum {k : Nat} (hk : k < 8) : ∀ L : List gr_R, gr_ok L → gr_ps ((k + 1) * 4294967296) (L.map gr_en) = gr_ps (k * 4294967296) (L.map gr_en) + gr_sum (nI k) L := by
  intro L
  induction L with
  | nil => intro _; rfl
  | cons r L ih =>
    intro ho
    have ih' := ih (fun x hx => ho x (List.mem_cons_of_mem _ hx))
    obtain ⟨a, v⟩ := r
    obtain ⟨j, hj, e⟩ := ho _ List.mem_cons_self
    dsimp only at e
    subst e
    rw [List.map_cons]
    show (if gr_en (nI j, v) < (k + 1) * 4294967296 then ga_vl (gr_en (nI j, v)) else 0) + gr_ps ((k + 1) * 4294967296) (L.map gr_en) = ((if gr_en (nI j, v) < k * 4294967296 then ga_vl (gr_en (nI j, v)) else 0) + gr_ps (k * 4294967296) (L.map gr_en)) + ((if nI j = nI k then v else 0) + gr_sum (nI k) L)
    rw [gr_en_n hj, ga_vlpc hj, ih']
    have hb := ga_pclo j v
    by_cases c : j = k
    · subst c
      rw [if_pos (by omega), if_neg (by omega), if_pos rfl, Int32.zero_add, ← Int32.add_assoc, ← Int32.add_assoc, Int32.add_comm v]
    · rw [if_neg (c := nI j = nI k) (fun x => c (ga_im x (by omega) (by omega))), Int32.zero_add]
      by_cases d : j < k
      · have h1 : (j + 1) * 4294967296 ≤ k * 4294967296 := Nat.mul_le_mul_right _ d
        rw [if_pos (by omega), if_pos (by omega), Int32.add_assoc]
      · have h1 : (k + 1) * 4294967296 ≤ j * 4294967296 := Nat.mul_le_mul_right _ (by omega)
        rw [if_neg (by omega), if_neg (by omega), Int32.zero_add, Int32.zero_add]
/-- the tree's list E holds the rows L -/
def gr_rl (E : List gt_E) (L : List gr_R) : Prop := gt_so E ∧ (∀ x ∈ E, 1 ≤ x.2.2) ∧ gr_ok L ∧ List.Perm (gt_ft E) (L.map gr_en)
theorem gr_cp {E : List gt_E} {L : List gr_R} (h : gr_rl E L) (p : Nat → Bool) : (gt_ft E).countP p = L.countP (fun r => p (gr_en r)) := by
  rw [h.2.2.2.countP_eq p, List.countP_map]
  rfl
theorem gr_rbL {E : List gt_E} {L : List gr_R} (h : gr_rl E L) (q : Nat) : gt_rb q E = L.countP (fun r => decide (gr_en r < q)) := by
  rw [gt_rb_ft, gr_cp h]
theorem gr_tmL {E : List gt_E} {L : List gr_R} (h : gr_rl E L) (q : Nat) : gt_tm q E = L.countP (fun r => decide (gr_en r = q)) := by
  rw [gt_tm_ft, gr_cp h]
theorem gr_totL {E : List gt_E} {L : List gr_R} (h : gr_rl E L) : gt_tot E = L.length := by
  rw [gt_tot_ft, h.2.2.2.length_eq, List.length_map]
theorem gr_x_rows {E : List gt_E} {L : List gr_R} (h : gr_rl E L) {k : Nat} (hk : k < 8) : gt_rb ((k + 1) * 4294967296) E = gt_rb (k * 4294967296) E + gr_cnt (nI k) L := by
  rw [gr_rbL h, gr_rbL h]; exact gr_splitB hk h.2.2.1
theorem gr_x_low {E : List gt_E} {L : List gr_R} (h : gr_rl E L) {k : Nat} (hk : k < 8) (v : Int32) : gt_rb (ga_pc k v) E = gt_rb (k * 4294967296) E + gr_low (nI k) v L := by
  rw [gr_rbL h, gr_rbL h]; exact gr_splitV hk v h.2.2.1
theorem gr_x_tm {E : List gt_E} {L : List gr_R} (h : gr_rl E L) {k : Nat} (hk : k < 8) (v : Int32) : gt_tm (ga_pc k v) E = gr_eqc (nI k) v L := by
  rw [gr_tmL h]; exact gr_eqE hk v h.2.2.1
theorem gr_x_sum {E : List gt_E} {L : List gr_R} (h : gr_rl E L) {k : Nat} (hk : k < 8) : gt_sb ((k + 1) * 4294967296) E - gt_sb (k * 4294967296) E = gr_sum (nI k) L := by
  rw [gt_sb_ft, gt_sb_ft, gr_ps_p _ h.2.2.2, gr_ps_p _ h.2.2.2, gr_ps_sum hk L h.2.2.1, Int32.add_comm, Int32.add_sub_cancel]
theorem gt_ft_mem {E : List gt_E} (h : ∀ x ∈ E, 1 ≤ x.2.2) (q : Nat) : q ∈ gt_ft E ↔ ∃ x ∈ E, x.2.1 = q := by
  unfold gt_ft
  rw [List.mem_flatMap]
  constructor
  · intro ⟨x, hx, hq⟩
    exact ⟨x, hx, (List.mem_replicate.mp hq).2.symm⟩
  · intro ⟨x, hx, hq⟩
    exact ⟨x, hx, List.mem_replicate.mpr ⟨by have := h x hx; omega, hq.symm⟩⟩
theorem gr_memL {E : List gt_E} {L : List gr_R} (h : gr_rl E L) (q : Nat) : (∃ x ∈ E, x.2.1 = q) ↔ ∃ r ∈ L, gr_en r = q := by
  rw [← gt_ft_mem h.2.1, h.2.2.2.mem_iff, List.mem_map]
theorem gr_x_kinds0 {E : List gt_E} {L : List gr_R} (h : gr_rl E L) (q : Nat) : gt_kb q E = (gr_U L).countP (fun r => decide (gr_en r < q)) := by
  have e1 : ∀ E : List gt_E, gt_kb q E = (E.map (fun x => x.2.1)).countP (fun s => decide (s < q)) := by
    intro E
    induction E with
    | nil => rfl
    | cons x E ih =>
      rw [List.map_cons, List.countP_cons, ← ih]
      show (if x.2.1 < q then 1 else 0) + gt_kb q E = _
      simp only [decide_eq_true_eq]
      omega
  have n1 : (E.map (fun x => x.2.1)).Nodup := by
    refine List.pairwise_map.mpr (List.Pairwise.imp ?_ h.1)
    intro a b hab
    omega
  have hU : gr_ok (gr_U L) := fun r hr => h.2.2.1 r ((gr_U_mem L r).mp hr)
  have n2 : ((gr_U L).map gr_en).Nodup := by
    refine List.pairwise_map.mpr (List.Pairwise.imp_of_mem ?_ (gr_U_nd L))
    intro a b ha hb hab e
    exact hab (gr_en_inj (hU a ha) (hU b hb) e)
  have p : List.Perm (E.map (fun x => x.2.1)) ((gr_U L).map gr_en) := by
    refine (List.perm_ext_iff_of_nodup n1 n2).mpr (fun s => ?_)
    rw [List.mem_map, List.mem_map]
    refine (gr_memL h s).trans ?_
    constructor
    · intro ⟨r, hr, e⟩; exact ⟨r, (gr_U_mem L r).mpr hr, e⟩
    · intro ⟨r, hr, e⟩; exact ⟨r, (gr_U_mem L r).mp hr, e⟩
  rw [e1, p.countP_eq, List.countP_map]
  rfl
theorem gr_x_kinds {E : List gt_E} {L : List gr_R} (h : gr_rl E L) {k : Nat} (hk : k < 8) : gt_kb ((k + 1) * 4294967296) E = gt_kb (k * 4294967296) E + gr_df (nI k) L := by
  rw [gr_x_kinds0 h, gr_x_kinds0 h]
  exact gr_splitB hk (fun r hr => h.2.2.1 r ((gr_U_mem L r).mp hr))
theorem gt_at_spec : ∀ (E : List gt_E) (i : Nat), gt_so E → (∀ x ∈ E, 1 ≤ x.2.2) → i < gt_tot E → (∃ x ∈ E, x.2.1 = gt_at E i) ∧ gt_rb (gt_at E i) E ≤ i ∧ i < gt_rb (gt_at E i) E + gt_tm (gt_at E i) E := by
  intro E
  induction E with
  | nil => intro i _ _ h; exact absurd h (Nat.not_lt_zero _)
  | cons e E ih =>
    intro i so h1 hi
    obtain ⟨a, p, m⟩ := e
    obtain ⟨s1, s2⟩ := List.pairwise_cons.mp so
    have so' : gt_so ([] ++ (a, p, m) :: E) := so
    have hi' : i < m + gt_tot E := hi
    by_cases c : i < m
    · have e : gt_at ((a, p, m) :: E) i = p := if_pos c
      rw [e]
      have e1 : gt_rb p ((a, p, m) :: E) = 0 := gt_rb_lo so' (Nat.le_refl p)
      have e2 : gt_tm p ((a, p, m) :: E) = m := gt_tm_eq so' rfl
      rw [e1, e2]
      exact ⟨⟨_, List.mem_cons_self, rfl⟩, by omega, by omega⟩
    · have e : gt_at ((a, p, m) :: E) i = gt_at E (i - m) := if_neg c
      obtain ⟨⟨x, hx, ex⟩, j1, j2⟩ := ih (i - m) s2 (fun x hx => h1 x (List.mem_cons_of_mem _ hx)) (by omega)
      rw [e]
      have hp : p < gt_at E (i - m) := by rw [← ex]; exact s1 x hx
      have e1 : gt_rb (gt_at E (i - m)) ((a, p, m) :: E) = 0 + m + gt_rb (gt_at E (i - m)) E := gt_rb_hi so' hp
      have e2 : gt_tm (gt_at E (i - m)) ((a, p, m) :: E) = gt_tm (gt_at E (i - m)) E := gt_tm_hi so' hp
      rw [e1, e2]
      exact ⟨⟨x, List.mem_cons_of_mem _ hx, ex⟩, by omega, by omega⟩
theorem gr_x_rank {E : List gt_E} {L : List gr_R} (h : gr_rl E L) {k j : Nat} (hk : k < 8) (hj : j < gr_cnt (nI k) L) :
    ∃ v, gt_at E (gt_rb (k * 4294967296) E + j) = ga_pc k v ∧ gr_is (nI k) j L v := by
  have hr := gr_x_rows h hk
  have hle : gt_rb ((k + 1) * 4294967296) E ≤ gt_tot E := by
    rw [gt_rb_ft, gt_tot_ft]; exact List.countP_le_length
  obtain ⟨hm, h1, h2⟩ := gt_at_spec E (gt_rb (k * 4294967296) E + j) h.1 h.2.1 (by omega)
  obtain ⟨q, eq⟩ : ∃ q, q = gt_at E (gt_rb (k * 4294967296) E + j) := ⟨_, rfl⟩
  rw [← eq] at hm h1 h2 ⊢
  obtain ⟨⟨kk, v⟩, hrL, er⟩ := (gr_memL h q).mp hm
  obtain ⟨k', hk', e'⟩ := h.2.2.1 _ hrL
  dsimp only at e'
  subst e'
  rw [gr_en_n hk'] at er
  have hb := ga_pclo k' v
  have f1 := gt_rb_ft q E
  have f2 := gt_tm_ft q E
  have mono : ∀ b c : Nat, b ≤ c → gt_rb b E ≤ gt_rb c E := by
    intro b c hbc
    rw [gt_rb_ft, gt_rb_ft]
    exact List.countP_mono_left (fun x _ hx => by simp only [decide_eq_true_eq] at hx ⊢; omega)
  have lem : gt_rb q E + gt_tm q E ≤ gt_rb (q + 1) E := by
    have g : ∀ E : List gt_E, gt_rb q E + gt_tm q E ≤ gt_rb (q + 1) E := by
      intro E
      induction E with
      | nil => exact Nat.le_refl 0
      | cons x E ih =>
        show ((if x.2.1 < q then x.2.2 else 0) + gt_rb q E) + ((if x.2.1 = q then x.2.2 else 0) + gt_tm q E) ≤ (if x.2.1 < q + 1 then x.2.2 else 0) + gt_rb (q + 1) E
        by_cases c1 : x.2.1 < q
        · rw [if_pos c1, if_neg (by omega), if_pos (by omega)]; omega
        · by_cases c2 : x.2.1 = q
          · rw [if_neg c1, if_pos c2, if_pos (by omega)]; omega
          · rw [if_neg c1, if_neg c2, if_neg (by omega)]; omega
    exact g E
  have ge : k * 4294967296 ≤ q := by
    by_cases c : k * 4294967296 ≤ q
    · exact c
    · have := mono (q + 1) (k * 4294967296) (by omega)
      omega
  have lt : q < (k + 1) * 4294967296 := by
    by_cases c : q < (k + 1) * 4294967296
    · exact c
    · have := mono ((k + 1) * 4294967296) q (Nat.not_lt.mp c)
      omega
  have kk : k' = k := by omega
  subst kk
  refine ⟨v, er.symm, hrL, ?_, ?_⟩
  · have := gr_x_low h hk v
    rw [er] at this
    omega
  · have a := gr_x_low h hk v
    have b := gr_x_tm h hk v
    rw [er] at a b
    omega
end
section
/-! describe -/
theorem gr_nw_z {k : Int32} {L : List gr_R} (h : gr_cnt k L = 0) (f : Nat) : gr_nw k L f = 0 := if_pos h
theorem gr_nw_0 {k : Int32} {L : List gr_R} (h : ¬ gr_cnt k L = 0) : gr_nw k L 0 = nI (gr_cnt k L) := by unfold gr_nw; rw [if_neg h]; rfl
theorem gr_nw_1 {k : Int32} {L : List gr_R} (h : ¬ gr_cnt k L = 0) : gr_nw k L 1 = gr_sum k L := by unfold gr_nw; rw [if_neg h]; rfl
theorem gr_nw_2 {k : Int32} {L : List gr_R} (h : ¬ gr_cnt k L = 0) : gr_nw k L 2 = gr_rk k 0 L := by unfold gr_nw; rw [if_neg h]; rfl
theorem gr_nw_3 {k : Int32} {L : List gr_R} (h : ¬ gr_cnt k L = 0) : gr_nw k L 3 = gr_rk k (gr_cnt k L - 1) L := by unfold gr_nw; rw [if_neg h]; rfl
theorem gr_nw_4 {k : Int32} {L : List gr_R} (h : ¬ gr_cnt k L = 0) : gr_nw k L 4 = nI (gr_df k L) := by unfold gr_nw; rw [if_neg h]; rfl
theorem gr_nw_5 {k : Int32} {L : List gr_R} (h : ¬ gr_cnt k L = 0) : gr_nw k L 5 = gr_rk k ((gr_cnt k L - 1) / 2) L := by unfold gr_nw; rw [if_neg h]; rfl
theorem ga_6 {i : Nat} (h : i < 6) : ¬ (6 : Int32) ≤ nI i := nI_ge (b := 6) h (by decide)
theorem ga_f6 {P : Nat → Prop} (h0 : P 0) (h1 : P 1) (h2 : P 2) (h3 : P 3) (h4 : P 4) (h5 : P 5) : ∀ f, f < 6 → P f := by
  intro f hf
  obtain h | h | h | h | h | h : f = 0 ∨ f = 1 ∨ f = 2 ∨ f = 3 ∨ f = 4 ∨ f = 5 := by omega
  · rw [h]; exact h0
  · rw [h]; exact h1
  · rw [h]; exact h2
  · rw [h]; exact h3
  · rw [h]; exact h4
  · rw [h]; exact h5
section gxdd
variable {fl ce sb sa en : Int32} {be af eS eK eF : Nat → Int32} {rt fr dp : Int32} {G : Nat → gx_C} {pa : Nat → Int32} {T : gt_T} {L : List gr_R}
theorem gx_desc6 {post : SX → Prop} {k n : Nat} (tr : gx_tr G T) (rl : gr_rl (gt_il T) L) (hk : k < 8) (hz : ∀ f, f < 6 → af f = 0)
    (K : ∀ af' : Nat → Int32, (∀ f, f < 6 → af' f = gr_nw (nI k) L f) → post (gx_s (fl, ce, sb, gr_sh fl ce (nI k) L, en, be, af', eS, eK, eF) (nI (gt_rp T)) fr dp G pa)) :
    wX_describe_39 post (lN (k * 4294967296)) (lN ((k + 1) * 4294967296)) (nI (gt_rb (k * 4294967296) (gt_il T))) (nI (gr_cnt (nI k) L)) (nI (gt_rp T)) fr dp fl ce sb 0 en (n + 1) (nI 6) (fun qq => (G qq).1) (fun qq => (G qq).2.1) (fun qq => (G qq).2.2.1) (fun qq => (G qq).2.2.2.1) (fun qq => (G qq).2.2.2.2.1) (fun qq => (G qq).2.2.2.2.2.1) (fun qq => (G qq).2.2.2.2.2.2.1) (fun qq => (G qq).2.2.2.2.2.2.2) pa be af eS eK eF := by
  have hrow := gr_x_rows rl hk
  have hle : gt_rb ((k + 1) * 4294967296) (gt_il T) ≤ gt_tot (gt_il T) := by
    rw [gt_rb_ft, gt_tot_ft]; exact List.countP_le_length
  have htot := tr.2.2.2.2.2.2
  obtain ⟨A, eA⟩ : ∃ A, A = k * 4294967296 := ⟨_, rfl⟩
  obtain ⟨B, eB⟩ : ∃ B, B = (k + 1) * 4294967296 := ⟨_, rfl⟩
  have hA : A < 2 ^ 40 := by omega
  have hB : B < 2 ^ 40 := by omega
  obtain ⟨c, ec⟩ : ∃ c, c = gr_cnt (nI k) L := ⟨_, rfl⟩
  have hsum := gr_x_sum rl hk
  have hkin := gr_x_kinds rl hk
  refine br_t (by decide) ?_
  by_cases c0 : gr_cnt (nI k) L = 0
  · refine br_t (by rw [c0]; rfl) ?_
    have e : gr_sh fl ce (nI k) L = 0 := if_pos c0
    rw [e] at K
    exact K af (fun f hf => by rw [hz f hf, gr_nw_z c0])
  · refine br_f (by rw [ga_eq0 (by omega)]; exact c0) (nm_e ?_)
    obtain ⟨v1, p1, i1⟩ := gr_x_rank rl (j := 0) hk (by omega)
    obtain ⟨v2, p2, i2⟩ := gr_x_rank rl (j := gr_cnt (nI k) L - 1) hk (by omega)
    obtain ⟨v3, p3, i3⟩ := gr_x_rank rl (j := (gr_cnt (nI k) L - 1) / 2) hk (by omega)
    rw [← eA] at p1 p2 p3 hrow hsum hkin ⊢
    rw [← eB] at hrow hsum hkin hle ⊢
    rw [← ec] at p2 p3 hrow i2 i3 c0 ⊢
    refine gx_sumBelow (W := (fl, ce, sb, 0, en, be, upd af 0 (nI c), eS, eK, eF)) (fr := fr) (dp := dp) (G := G) (pa := pa) tr hB ?_
    refine gx_sumBelow (W := (fl, ce, sb, 0, en, be, upd af 0 (nI c), eS, eK, eF)) (fr := fr) (dp := dp) (G := G) (pa := pa) tr hA ?_
    refine nm_e ?_
    rw [hsum]
    refine gx_rowAt (W := (fl, ce, sb, 0, en, be, upd (upd af 0 (nI c)) 1 (gr_sum (nI k) L), eS, eK, eF)) (fr := fr) (dp := dp) (G := G) (pa := pa) tr (by omega) ?_
    have e2 : nI (gt_rb A (gt_il T)) + nI c - 1 = nI (gt_rb A (gt_il T) + (c - 1)) := by
      rw [nI_add, ga_s1 (by omega)]
      exact congrArg nI (by omega)
    have e3 : nI (gt_rb A (gt_il T)) + (nI c - 1) / 2 = nI (gt_rb A (gt_il T) + (c - 1) / 2) := by
      rw [ga_s1 (by omega), show (2 : Int32) = nI 2 from rfl, pk_div (by omega) (by omega) (by omega), nI_add]
    rw [e2, e3]
    refine gx_rowAt (W := (fl, ce, sb, 0, en, be, upd (upd af 0 (nI c)) 1 (gr_sum (nI k) L), eS, eK, eF)) (fr := fr) (dp := dp) (G := G) (pa := pa) tr (by omega) ?_
    refine ⟨by decide, ?_⟩
    refine gx_rowAt (W := (fl, ce, sb, 0, en, be, upd (upd af 0 (nI c)) 1 (gr_sum (nI k) L), eS, eK, eF)) (fr := fr) (dp := dp) (G := G) (pa := pa) tr (by omega) ?_
    rw [Nat.add_zero] at p1
    rw [p1, p2, p3]
    unfold wpX_valueOf
    have w1 : ((lN (ga_pc k v1) &&& 4294967295) - 2147483648).toInt32 = v1 := ga_vlpc hk v1
    have w2 : ((lN (ga_pc k v2) &&& 4294967295) - 2147483648).toInt32 = v2 := ga_vlpc hk v2
    have w3 : ((lN (ga_pc k v3) &&& 4294967295) - 2147483648).toInt32 = v3 := ga_vlpc hk v3
    rw [w1]
    refine nm_e ?_
    rw [w2]
    refine nm_e ?_
    refine gx_kindsBelow (W := (fl, ce, sb, 0, en, be, upd (upd (upd (upd af 0 (nI c)) 1 (gr_sum (nI k) L)) 2 v1) 3 v2, eS, eK, eF)) (fr := fr) (dp := dp) (G := G) (pa := pa) tr hB ?_
    refine gx_kindsBelow (W := (fl, ce, sb, 0, en, be, upd (upd (upd (upd af 0 (nI c)) 1 (gr_sum (nI k) L)) 2 v1) 3 v2, eS, eK, eF)) (fr := fr) (dp := dp) (G := G) (pa := pa) tr hA ?_
    have e4 : nI (gt_kb B (gt_il T)) - nI (gt_kb A (gt_il T)) = nI (gr_df (nI k) L) := by
      rw [pk_sub (by omega)]
      exact congrArg nI (by omega)
    rw [e4]
    refine nm_e ?_
    rw [w3]
    refine nm_e ?_
    have hK : ∀ f, f < 6 → upd (upd (upd (upd (upd (upd af 0 (nI c)) 1 (gr_sum (nI k) L)) 2 v1) 3 v2) 4 (nI (gr_df (nI k) L))) 5 v3 f = gr_nw (nI k) L f := by
      rw [ec] at c0 i2 i3
      refine ga_f6 ?_ ?_ ?_ ?_ ?_ ?_
      · rw [gr_nw_0 c0, ec]; rfl
      · rw [gr_nw_1 c0]; rfl
      · rw [gr_nw_2 c0, gr_rk_eq i1]; rfl
      · rw [gr_nw_3 c0, gr_rk_eq i2]; rfl
      · rw [gr_nw_4 c0]; rfl
      · rw [gr_nw_5 c0, gr_rk_eq i3]; rfl
    have hs : gr_sh fl ce (nI k) L = if nI c < fl then 0 else if ce < nI (gr_df (nI k) L) then 0 else 1 := by
      unfold gr_sh
      rw [← ec, if_neg c0]
    have hK' := K _ hK
    rw [hs] at hK'
    refine br_c (fun h => ?_) (fun h => br_c (fun h2 => ?_) (fun h2 => ?_))
    · rw [if_pos h] at hK'; exact hK'
    · have h2' : ce < nI (gr_df (nI k) L) := h2
      rw [if_neg h, if_pos h2'] at hK'; exact hK'
    · have h2' : ¬ ce < nI (gr_df (nI k) L) := h2
      rw [if_neg h, if_neg h2'] at hK'; exact hK'
theorem gx_desc39 {post : SX → Prop} {k : Nat} (tr : gx_tr G T) (rl : gr_rl (gt_il T) L) (hk : k < 8)
    (K : ∀ af' : Nat → Int32, (∀ f, f < 6 → af' f = gr_nw (nI k) L f) → post (gx_s (fl, ce, sb, gr_sh fl ce (nI k) L, en, be, af', eS, eK, eF) (nI (gt_rp T)) fr dp G pa)) :
    ∀ (d i n : Nat) (af : Nat → Int32), i + d = 6 → d < n → (∀ f, f < i → af f = 0) →
    wX_describe_39 post (lN (k * 4294967296)) (lN ((k + 1) * 4294967296)) (nI (gt_rb (k * 4294967296) (gt_il T))) (nI (gr_cnt (nI k) L)) (nI (gt_rp T)) fr dp fl ce sb 0 en n (nI i) (fun qq => (G qq).1) (fun qq => (G qq).2.1) (fun qq => (G qq).2.2.1) (fun qq => (G qq).2.2.2.1) (fun qq => (G qq).2.2.2.2.1) (fun qq => (G qq).2.2.2.2.2.1) (fun qq => (G qq).2.2.2.2.2.2.1) (fun qq => (G qq).2.2.2.2.2.2.2) pa be af eS eK eF := by
  intro d
  induction d with
  | zero =>
    intro i n af hi hn hz
    obtain ⟨n, rfl⟩ : ∃ a, n = a + 1 := ⟨n - 1, by omega⟩
    have e : i = 6 := by omega
    subst e
    exact gx_desc6 tr rl hk hz K
  | succ d ih =>
    intro i n af hi hn hz
    obtain ⟨n, rfl⟩ : ∃ a, n = a + 1 := ⟨n - 1, by omega⟩
    refine br_f (ga_6 (by omega)) ⟨vp_in_nI (by omega) (by omega), ?_⟩
    rw [nI_clamp (by omega)]
    refine nm_e (nm_r (nI_1 i) ?_)
    refine ih (i + 1) n (upd af i 0) (by omega) (by omega) (fun f hf => ?_)
    by_cases c : f = i
    · rw [c, pk_us]
    · rw [pk_un c]; exact hz f (by omega)
theorem gx_describe {post : SX → Prop} {k : Nat} (tr : gx_tr G T) (rl : gr_rl (gt_il T) L) (hk : k < 8)
    (K : ∀ af' : Nat → Int32, (∀ f, f < 6 → af' f = gr_nw (nI k) L f) → post (gx_s (fl, ce, sb, gr_sh fl ce (nI k) L, en, be, af', eS, eK, eF) (nI (gt_rp T)) fr dp G pa)) :
    wpX_describe post (gx_s (fl, ce, sb, sa, en, be, af, eS, eK, eF) (nI (gt_rp T)) fr dp G pa) (nI k) := by
  unfold wpX_describe wpX_placeOf wpX_placeOfEnd
  dsimp only
  rw [ga_place hk, ga_placeE hk, ga_pc0]
  refine gx_rowsBelow (W := (fl, ce, sb, sa, en, be, af, eS, eK, eF)) (fr := fr) (dp := dp) (G := G) (pa := pa) tr (by omega) ?_
  refine gx_rowsBelow (W := (fl, ce, sb, sa, en, be, af, eS, eK, eF)) (fr := fr) (dp := dp) (G := G) (pa := pa) tr (by omega) ?_
  refine nm_r (e' := nI (gr_cnt (nI k) L)) ?_ ⟨7, ?_⟩
  · have := gr_x_rows rl hk
    rw [pk_sub (by omega)]
    exact congrArg nI (by omega)
  · exact gx_desc39 tr rl hk K 6 0 7 af rfl (by omega) (fun f hf => absurd hf (Nat.not_lt_zero _))
end gxdd
end
section
/-! the log: pure -/
abbrev gl_G : Type := Nat × (Nat → Int32) × (Nat → Int32) × (Nat → Int32)
def gl_wi (eF : Nat → Int32) (n : Nat) (F : Nat → Int32) (i : Nat) : Nat → Int32 := fun j => if 6 * n ≤ j ∧ j < 6 * n + i then F (j - 6 * n) else eF j
theorem gl_wi_0 (eF : Nat → Int32) (n : Nat) (F : Nat → Int32) : gl_wi eF n F 0 = eF := by
  funext j
  exact if_neg (by omega)
theorem gl_wi_s (eF : Nat → Int32) (n : Nat) (F : Nat → Int32) (i : Nat) : upd (gl_wi eF n F i) (6 * n + i) (F i) = gl_wi eF n F (i + 1) := by
  funext j
  by_cases c : j = 6 * n + i
  · rw [c, pk_us]
    unfold gl_wi
    rw [if_pos (by omega)]
    exact congrArg F (by omega)
  · rw [pk_un c]
    unfold gl_wi
    by_cases d : 6 * n ≤ j ∧ j < 6 * n + i
    · rw [if_pos d, if_pos (by omega)]
    · rw [if_neg d, if_neg (by omega)]
theorem gl_wi_c {eF : Nat → Int32} {n : Nat} {F F' : Nat → Int32} (h : ∀ f, f < 6 → F f = F' f) : gl_wi eF n F 6 = gl_wi eF n F' 6 := by
  funext j
  unfold gl_wi
  by_cases d : 6 * n ≤ j ∧ j < 6 * n + 6
  · rw [if_pos d, if_pos d, h _ (by omega)]
  · rw [if_neg d, if_neg d]
def gl_en (s k : Int32) (F : Nat → Int32) (g : gl_G) : gl_G := (g.1 + 1, upd g.2.1 g.1 s, upd g.2.2.1 g.1 k, gl_wi g.2.2.2 g.1 F 6)
noncomputable def gl_lg (sb sa : Int32) (b a : Nat → Int32) (k : Int32) (g : gl_G) : gl_G :=
  @ite gl_G (¬ sb = 0 ∧ ¬ sa = 0 ∧ (∀ f, f < 6 → b f = a f)) (Classical.propDecidable _) g (if sa = 0 then (if sb = 0 then g else gl_en 1 k b g) else gl_en 2 k a (if sb = 0 then g else gl_en 1 k b g))
theorem gl_en_c {s k : Int32} {F F' : Nat → Int32} (h : ∀ f, f < 6 → F f = F' f) (g : gl_G) : gl_en s k F g = gl_en s k F' g := by
  unfold gl_en; rw [gl_wi_c h]
theorem gl_lg_c {sb sa k : Int32} {b b' a a' : Nat → Int32} (h : ∀ f, f < 6 → b f = b' f) (h' : ∀ f, f < 6 → a f = a' f) (g : gl_G) : gl_lg sb sa b a k g = gl_lg sb sa b' a' k g := by
  have e : (∀ f, f < 6 → b f = a f) ↔ (∀ f, f < 6 → b' f = a' f) :=
    ⟨fun q f hf => by rw [← h f hf, ← h' f hf]; exact q f hf, fun q f hf => by rw [h f hf, h' f hf]; exact q f hf⟩
  unfold gl_lg
  rw [gl_en_c h, gl_en_c h']
  by_cases c : ¬ sb = 0 ∧ ¬ sa = 0 ∧ (∀ f, f < 6 → b f = a f)
  · rw [if_pos c, if_pos ⟨c.1, c.2.1, e.mp c.2.2⟩]
  · have c' : ¬ (¬ sb = 0 ∧ ¬ sa = 0 ∧ (∀ f, f < 6 → b' f = a' f)) := fun d => c ⟨d.1, d.2.1, e.mpr d.2.2⟩
    rw [if_neg c, if_neg c']
theorem gl_lg_s {s k : Int32} {b a : Nat → Int32} (h : ∀ f, f < 6 → b f = a f) (g : gl_G) : gl_lg s s b a k g = g := by
  unfold gl_lg
  by_cases c : s = 0
  · have c' : ¬ (¬ s = 0 ∧ ¬ s = 0 ∧ (∀ f, f < 6 → b f = a f)) := fun d => d.1 c
    rw [if_neg c', if_pos c, if_pos c]
  · rw [if_pos ⟨c, c, h⟩]
theorem gl_lg_1 (sb sa k : Int32) (b a : Nat → Int32) (g : gl_G) : g.1 ≤ (gl_lg sb sa b a k g).1 ∧ (gl_lg sb sa b a k g).1 ≤ g.1 + 2 := by
  unfold gl_lg
  by_cases c : ¬ sb = 0 ∧ ¬ sa = 0 ∧ (∀ f, f < 6 → b f = a f)
  · rw [if_pos c]; omega
  · rw [if_neg c]
    by_cases d : sa = 0
    · rw [if_pos d]
      by_cases e : sb = 0
      · rw [if_pos e]; omega
      · rw [if_neg e]; show g.1 ≤ g.1 + 1 ∧ g.1 + 1 ≤ g.1 + 2; omega
    · rw [if_neg d]
      by_cases e : sb = 0
      · rw [if_pos e]; show g.1 ≤ g.1 + 1 ∧ g.1 + 1 ≤ g.1 + 2; omega
      · rw [if_neg e]; show g.1 ≤ g.1 + 1 + 1 ∧ g.1 + 1 + 1 ≤ g.1 + 2; omega
theorem gr_sh_01 (fl ce k : Int32) (L : List gr_R) : gr_sh fl ce k L = 0 ∨ gr_sh fl ce k L = 1 := by
  unfold gr_sh
  by_cases a : gr_cnt k L = 0
  · rw [if_pos a]; exact Or.inl rfl
  · rw [if_neg a]
    by_cases b : nI (gr_cnt k L) < fl
    · rw [if_pos b]; exact Or.inl rfl
    · rw [if_neg b]
      by_cases c : ce < nI (gr_df k L)
      · rw [if_pos c]; exact Or.inl rfl
      · rw [if_neg c]; exact Or.inr rfl
theorem ga_nb {x : Int32} (h : x = 0 ∨ x = 1) : narrow .boolean (.int x) = .int x := by
  rcases h with h | h <;> rw [h] <;> rfl
theorem ga_fb {x : Int32} (h : x = 0 ∨ x = 1) : fits .boolean (.int x) = true := by
  rcases h with h | h <;> rw [h] <;> rfl
section gxl
variable {fl ce sb sa en : Int32} {be af eS eK eF : Nat → Int32} {rt fr dp : Int32} {G : Nat → gx_C} {pa : Nat → Int32} {T : gt_T} {L : List gr_R}
theorem gx_note15 {post : SX → Prop} (K : ∀ be' : Nat → Int32, (∀ f, f < 6 → be' f = af f) → post (gx_s (fl, ce, sb, sa, en, be', af, eS, eK, eF) rt fr dp G pa)) :
    ∀ (d i n : Nat) (be : Nat → Int32), i + d = 6 → d < n → (∀ f, f < i → be f = af f) →
    wX_noteBefore_15 post rt fr dp fl ce sb sa en n (nI i) (fun qq => (G qq).1) (fun qq => (G qq).2.1) (fun qq => (G qq).2.2.1) (fun qq => (G qq).2.2.2.1) (fun qq => (G qq).2.2.2.2.1) (fun qq => (G qq).2.2.2.2.2.1) (fun qq => (G qq).2.2.2.2.2.2.1) (fun qq => (G qq).2.2.2.2.2.2.2) pa be af eS eK eF := by
  intro d
  induction d with
  | zero =>
    intro i n be hi hn hz
    obtain ⟨n, rfl⟩ : ∃ a, n = a + 1 := ⟨n - 1, by omega⟩
    have e : i = 6 := by omega
    subst e
    exact br_t (by decide) (K be hz)
  | succ d ih =>
    intro i n be hi hn hz
    obtain ⟨n, rfl⟩ : ∃ a, n = a + 1 := ⟨n - 1, by omega⟩
    have v : vp_in (nI i) 6 := vp_in_nI (by omega) (by omega)
    refine br_f (ga_6 (by omega)) ⟨v, v, ?_⟩
    rw [nI_clamp (by omega)]
    refine nm_e (nm_r (nI_1 i) ?_)
    refine ih (i + 1) n (upd be i (af i)) (by omega) (by omega) (fun f hf => ?_)
    by_cases c : f = i
    · rw [c, pk_us]
    · rw [pk_un c]; exact hz f (by omega)
theorem gx_note {post : SX → Prop} {k : Nat} (tr : gx_tr G T) (rl : gr_rl (gt_il T) L) (hk : k < 8)
    (K : ∀ be' af' : Nat → Int32, (∀ f, f < 6 → be' f = gr_nw (nI k) L f) → post (gx_s (fl, ce, gr_sh fl ce (nI k) L, gr_sh fl ce (nI k) L, en, be', af', eS, eK, eF) (nI (gt_rp T)) fr dp G pa)) :
    wpX_noteBefore post (gx_s (fl, ce, sb, sa, en, be, af, eS, eK, eF) (nI (gt_rp T)) fr dp G pa) (nI k) := by
  unfold wpX_noteBefore
  dsimp only
  refine gx_describe (fl := fl) (ce := ce) (sb := sb) (sa := sa) (en := en) (be := be) (af := af) (eS := eS) (eK := eK) (eF := eF) (fr := fr) (dp := dp) (G := G) (pa := pa) tr rl hk ?_
  intro af' haf
  dsimp only
  refine ⟨ga_nb (gr_sh_01 _ _ _ _), ga_fb (gr_sh_01 _ _ _ _), 7, ?_⟩
  refine gx_note15 (fl := fl) (ce := ce) (sb := gr_sh fl ce (nI k) L) (sa := gr_sh fl ce (nI k) L) (en := en) (af := af') (eS := eS) (eK := eK) (eF := eF) (G := G) ?_ 6 0 7 be rfl (by omega) (fun f hf => absurd hf (Nat.not_lt_zero _))
  intro be' hbe
  exact K be' af' (fun f hf => by rw [hbe f hf, haf f hf])
/-! writing an entry -/
theorem gx_w133 {post : SX → Prop} {m : Nat} (hm : m < 24) (K : post (gx_s (fl, ce, sb, sa, nI (m + 1), be, af, eS, eK, gl_wi eF m af 6) rt fr dp G pa)) :
    ∀ (d i n : Nat), i + d = 6 → d < n →
    wX_logChange_133 post rt fr dp fl ce sb sa (nI (m + 1)) n (nI i) (fun qq => (G qq).1) (fun qq => (G qq).2.1) (fun qq => (G qq).2.2.1) (fun qq => (G qq).2.2.2.1) (fun qq => (G qq).2.2.2.2.1) (fun qq => (G qq).2.2.2.2.2.1) (fun qq => (G qq).2.2.2.2.2.2.1) (fun qq => (G qq).2.2.2.2.2.2.2) pa be af eS eK (gl_wi eF m af i) := by
  intro d
  induction d with
  | zero =>
    intro i n hi hn
    obtain ⟨n, rfl⟩ : ∃ a, n = a + 1 := ⟨n - 1, by omega⟩
    have e : i = 6 := by omega
    subst e
    exact br_t (by decide) K
  | succ d ih =>
    intro i n hi hn
    obtain ⟨n, rfl⟩ : ∃ a, n = a + 1 := ⟨n - 1, by omega⟩
    have v : vp_in (nI i) 6 := vp_in_nI (by omega) (by omega)
    have e : 6 * (nI (m + 1) - 1) + nI i = nI (6 * m + i) := by rw [nI_pred, ga_6m, nI_add]
    refine br_f (ga_6 (by omega)) ⟨v, ?_⟩
    rw [e, nI_clamp (n := 6 * m + i) (by omega), nI_clamp (n := i) (by omega)]
    refine ⟨vp_in_nI (by omega) (by omega), nm_r (gl_wi_s eF m af i) (nm_r (nI_1 i) ?_)⟩
    exact ih (i + 1) n (by omega) (by omega)
theorem gx_118 {post : SX → Prop} {k : Int32} {m : Nat} (hm : sa = 0 ∨ m < 24)
    (K : ∀ g : gl_G, g = (if sa = 0 then (m, eS, eK, eF) else gl_en 2 k af (m, eS, eK, eF)) → post (gx_s (fl, ce, sb, sa, nI g.1, be, af, g.2.1, g.2.2.1, g.2.2.2) rt fr dp G pa)) :
    wX_logChange_118 post k rt fr dp fl ce sb sa (nI m) (fun qq => (G qq).1) (fun qq => (G qq).2.1) (fun qq => (G qq).2.2.1) (fun qq => (G qq).2.2.2.1) (fun qq => (G qq).2.2.2.2.1) (fun qq => (G qq).2.2.2.2.2.1) (fun qq => (G qq).2.2.2.2.2.2.1) (fun qq => (G qq).2.2.2.2.2.2.2) pa be af eS eK eF := by
  unfold wX_logChange_118
  refine br_c (fun h => ?_) (fun h => ?_)
  · rw [if_pos h] at K
    exact K _ rfl
  · rw [if_neg h] at K
    have hm' : m < 24 := by
      rcases hm with a | a
      · exact absurd a h
      · exact a
    have v : vp_in (nI m) 24 := vp_in_nI hm' (by omega)
    unfold wpX_startEntry
    dsimp only
    rw [nI_clamp (by omega)]
    refine ⟨v, nm_e ⟨v, nm_e (nm_r (nI_1 m) ⟨7, ?_⟩)⟩⟩
    have h0 := gx_w133 (post := post) (fl := fl) (ce := ce) (sb := sb) (sa := sa) (be := be) (af := af) (eS := upd eS m 2) (eK := upd eK m k) (eF := eF) (rt := rt) (fr := fr) (dp := dp) (G := G) (pa := pa) hm' (K _ rfl) 6 0 7 rfl (by omega)
    rw [gl_wi_0] at h0
    exact h0
theorem gx_w84 {post : SX → Prop} {k : Int32} {m : Nat} (hm : m < 24) (K : wX_logChange_118 post k rt fr dp fl ce sb sa (nI (m + 1)) (fun qq => (G qq).1) (fun qq => (G qq).2.1) (fun qq => (G qq).2.2.1) (fun qq => (G qq).2.2.2.1) (fun qq => (G qq).2.2.2.2.1) (fun qq => (G qq).2.2.2.2.2.1) (fun qq => (G qq).2.2.2.2.2.2.1) (fun qq => (G qq).2.2.2.2.2.2.2) pa be af eS eK (gl_wi eF m be 6)) :
    ∀ (d i n : Nat), i + d = 6 → d < n →
    wX_logChange_84 post k rt fr dp fl ce sb sa (nI (m + 1)) n (nI i) (fun qq => (G qq).1) (fun qq => (G qq).2.1) (fun qq => (G qq).2.2.1) (fun qq => (G qq).2.2.2.1) (fun qq => (G qq).2.2.2.2.1) (fun qq => (G qq).2.2.2.2.2.1) (fun qq => (G qq).2.2.2.2.2.2.1) (fun qq => (G qq).2.2.2.2.2.2.2) pa be af eS eK (gl_wi eF m be i) := by
  intro d
  induction d with
  | zero =>
    intro i n hi hn
    obtain ⟨n, rfl⟩ : ∃ a, n = a + 1 := ⟨n - 1, by omega⟩
    have e : i = 6 := by omega
    subst e
    exact br_t (by decide) K
  | succ d ih =>
    intro i n hi hn
    obtain ⟨n, rfl⟩ : ∃ a, n = a + 1 := ⟨n - 1, by omega⟩
    have v : vp_in (nI i) 6 := vp_in_nI (by omega) (by omega)
    have e : 6 * (nI (m + 1) - 1) + nI i = nI (6 * m + i) := by rw [nI_pred, ga_6m, nI_add]
    refine br_f (ga_6 (by omega)) ⟨v, ?_⟩
    rw [e, nI_clamp (n := 6 * m + i) (by omega), nI_clamp (n := i) (by omega)]
    refine ⟨vp_in_nI (by omega) (by omega), nm_r (gl_wi_s eF m be i) (nm_r (nI_1 i) ?_)⟩
    exact ih (i + 1) n (by omega) (by omega)
/-- the loop that compares; x = is it the same so far -/
theorem gx_27 {post : SX → Prop} {k : Int32} {m : Nat} (hm : m ≤ 22)
    (K : ∀ g : gl_G, g = gl_lg sb sa be af k (m, eS, eK, eF) → post (gx_s (fl, ce, sb, sa, nI g.1, be, af, g.2.1, g.2.2.1, g.2.2.2) rt fr dp G pa)) :
    ∀ (d i n : Nat) (x : Int32), i + d = 6 → d < n → ((x = 1 ∧ ¬ sb = 0 ∧ ¬ sa = 0 ∧ ∀ f, f < i → be f = af f) ∨ (x = 0 ∧ ¬ (¬ sb = 0 ∧ ¬ sa = 0 ∧ ∀ f, f < 6 → be f = af f))) →
    wX_logChange_27 post k rt fr dp fl ce sb sa (nI m) (fun qq => (G qq).1) (fun qq => (G qq).2.1) (fun qq => (G qq).2.2.1) (fun qq => (G qq).2.2.2.1) (fun qq => (G qq).2.2.2.2.1) (fun qq => (G qq).2.2.2.2.2.1) (fun qq => (G qq).2.2.2.2.2.2.1) (fun qq => (G qq).2.2.2.2.2.2.2) pa be af eS eK eF n x (nI i) := by
  intro d
  induction d with
  | zero =>
    intro i n x hi hn hx
    obtain ⟨n, rfl⟩ : ∃ a, n = a + 1 := ⟨n - 1, by omega⟩
    have e : i = 6 := by omega
    subst e
    refine br_t (by decide) ?_
    rcases hx with ⟨x1, hx⟩ | ⟨x0, hx⟩
    · refine br_f (by rw [x1]; decide) ?_
      exact K _ (by unfold gl_lg; rw [if_pos hx])
    · refine br_t x0 ?_
      have K' : ∀ g : gl_G, g = (if sa = 0 then (if sb = 0 then (m, eS, eK, eF) else gl_en 1 k be (m, eS, eK, eF)) else gl_en 2 k af (if sb = 0 then (m, eS, eK, eF) else gl_en 1 k be (m, eS, eK, eF))) → post (gx_s (fl, ce, sb, sa, nI g.1, be, af, g.2.1, g.2.2.1, g.2.2.2) rt fr dp G pa) := by
        intro g hg
        exact K g (by unfold gl_lg; rw [if_neg hx]; exact hg)
      refine br_c (fun h => ?_) (fun h => ?_)
      · rw [if_pos h] at K'
        exact gx_118 (Or.inr (by omega)) K'
      · rw [if_neg h] at K'
        have v : vp_in (nI m) 24 := vp_in_nI (by omega) (by omega)
        unfold wpX_startEntry
        dsimp only
        rw [nI_clamp (by omega)]
        refine ⟨v, nm_e ⟨v, nm_e (nm_r (nI_1 m) ⟨7, ?_⟩)⟩⟩
        have h0 := gx_w84 (post := post) (fl := fl) (ce := ce) (sb := sb) (sa := sa) (be := be) (af := af) (eS := upd eS m 1) (eK := upd eK m k) (eF := eF) (rt := rt) (fr := fr) (dp := dp) (G := G) (pa := pa) (k := k) (m := m) (by omega) (gx_118 (Or.inr (by omega)) K') 6 0 7 rfl (by omega)
        rw [gl_wi_0] at h0
        exact h0
  | succ d ih =>
    intro i n x hi hn hx
    obtain ⟨n, rfl⟩ : ∃ a, n = a + 1 := ⟨n - 1, by omega⟩
    have v : vp_in (nI i) 6 := vp_in_nI (by omega) (by omega)
    refine br_f (ga_6 (by omega)) ?_
    rcases hx with ⟨x1, h1, h2, h3⟩ | ⟨x0, hx⟩
    · refine br_f (by rw [x1]; decide) ⟨v, v, ?_⟩
      rw [nI_clamp (by omega)]
      refine br_c (fun h => nm_r (nI_1 i) ?_) (fun h => nm_r (nI_1 i) ?_)
      · refine ih (i + 1) n 1 (by omega) (by omega) (Or.inl ⟨rfl, h1, h2, fun f hf => ?_⟩)
        by_cases c : f = i
        · rw [c]; exact h
        · exact h3 f (by omega)
      · exact ih (i + 1) n 0 (by omega) (by omega) (Or.inr ⟨rfl, fun q => h (q.2.2 i (by omega))⟩)
    · refine br_t x0 (nm_r (nI_1 i) ?_)
      exact ih (i + 1) n 0 (by omega) (by omega) (Or.inr ⟨rfl, hx⟩)
theorem gx_log {post : SX → Prop} {k m : Nat} {b : Nat → Int32} (tr : gx_tr G T) (rl : gr_rl (gt_il T) L) (hk : k < 8) (hm : m ≤ 22) (hb : ∀ f, f < 6 → be f = b f)
    (K : ∀ (af' : Nat → Int32) (g : gl_G), g = gl_lg sb (gr_sh fl ce (nI k) L) b (gr_nw (nI k) L) (nI k) (m, eS, eK, eF) → post (gx_s (fl, ce, sb, gr_sh fl ce (nI k) L, nI g.1, be, af', g.2.1, g.2.2.1, g.2.2.2) (nI (gt_rp T)) fr dp G pa)) :
    wpX_logChange post (gx_s (fl, ce, sb, sa, nI m, be, af, eS, eK, eF) (nI (gt_rp T)) fr dp G pa) (nI k) := by
  unfold wpX_logChange
  dsimp only
  refine gx_describe (fl := fl) (ce := ce) (sb := sb) (sa := sa) (en := nI m) (be := be) (af := af) (eS := eS) (eK := eK) (eF := eF) (fr := fr) (dp := dp) (G := G) (pa := pa) tr rl hk ?_
  intro af' haf
  dsimp only
  have H := gx_27 (post := post) (fl := fl) (ce := ce) (sb := sb) (sa := gr_sh fl ce (nI k) L) (be := be) (af := af') (eS := eS) (eK := eK) (eF := eF) (rt := nI (gt_rp T)) (fr := fr) (dp := dp) (G := G) (pa := pa) (k := nI k) (m := m) hm
    (fun g hg => K af' g (by rw [hg]; exact gl_lg_c hb haf _)) 6 0 7
  refine br_c (fun h => ⟨7, ?_⟩) (fun h => br_c (fun h2 => ⟨7, ?_⟩) (fun h2 => ⟨7, ?_⟩))
  · exact H 0 rfl (by omega) (Or.inr ⟨rfl, fun q => q.1 h⟩)
  · exact H 0 rfl (by omega) (Or.inr ⟨rfl, fun q => q.2.1 h2⟩)
  · exact H 1 rfl (by omega) (Or.inl ⟨rfl, h, h2, fun f hf => absurd hf (Nat.not_lt_zero _)⟩)
end gxl
end
section
/-! the reference: its rows as a list, its questions -/
def gy_L (R : Nat) (ko vo : Nat → Int32) : List gr_R := (List.range R).map (fun i => (ko i, vo i))
theorem gy_L_s (R : Nat) (ko vo : Nat → Int32) : gy_L (R + 1) ko vo = gy_L R ko vo ++ [(ko R, vo R)] := by
  unfold gy_L; rw [List.range_succ, List.map_append]; rfl
theorem gy_L_len (R : Nat) (ko vo : Nat → Int32) : (gy_L R ko vo).length = R := by
  unfold gy_L; rw [List.length_map, List.length_range]
theorem gy_L_mem {R : Nat} {ko vo : Nat → Int32} {r : gr_R} : r ∈ gy_L R ko vo ↔ ∃ i, i < R ∧ (ko i, vo i) = r := by
  unfold gy_L; rw [List.mem_map]
  constructor
  · intro ⟨i, hi, e⟩; exact ⟨i, List.mem_range.mp hi, e⟩
  · intro ⟨i, hi, e⟩; exact ⟨i, List.mem_range.mpr hi, e⟩
theorem gy_L_cg {R : Nat} {ko vo ko' vo' : Nat → Int32} (h : ∀ i, i < R → ko i = ko' i ∧ vo i = vo' i) : gy_L R ko vo = gy_L R ko' vo' := by
  unfold gy_L
  refine List.map_congr_left (fun i hi => ?_)
  obtain ⟨a, b⟩ := h i (List.mem_range.mp hi)
  rw [a, b]
theorem gr_cnt_sn (k : Int32) (L : List gr_R) (r : gr_R) : gr_cnt k (L ++ [r]) = gr_cnt k L + if r.1 = k then 1 else 0 := by
  unfold gr_cnt; rw [List.countP_append, List.countP_singleton]; simp only [decide_eq_true_eq]
theorem gr_low_sn (k v : Int32) (L : List gr_R) (r : gr_R) : gr_low k v (L ++ [r]) = gr_low k v L + if r.1 = k ∧ r.2 < v then 1 else 0 := by
  unfold gr_low; rw [List.countP_append, List.countP_singleton]; simp only [decide_eq_true_eq]
theorem gr_eqc_sn (k v : Int32) (L : List gr_R) (r : gr_R) : gr_eqc k v (L ++ [r]) = gr_eqc k v L + if r.1 = k ∧ r.2 = v then 1 else 0 := by
  unfold gr_eqc; rw [List.countP_append, List.countP_singleton]; simp only [decide_eq_true_eq]
theorem gr_sum_sn (k : Int32) (L : List gr_R) (r : gr_R) : gr_sum k (L ++ [r]) = gr_sum k L + if r.1 = k then r.2 else 0 := by
  induction L with
  | nil => show _ + 0 = 0 + _; rw [Int32.add_zero, Int32.zero_add]
  | cons x L ih => show _ + gr_sum k (L ++ [r]) = _ + gr_sum k L + _; rw [ih, Int32.add_assoc]
theorem gr_cnt_le (k : Int32) (L : List gr_R) : gr_cnt k L ≤ L.length := List.countP_le_length
theorem gr_low_le (k v : Int32) (L : List gr_R) : gr_low k v L ≤ L.length := List.countP_le_length
theorem gr_eqc_le (k v : Int32) (L : List gr_R) : gr_eqc k v L ≤ L.length := List.countP_le_length
section gyq
variable {R : Nat} {fl ce en : Int32} {ko vo so ks fd sB bf : Nat → Int32}
theorem gy_count4 {post : Int32 → Prop} {x : Int32} (hR : R ≤ 40) (K : post (nI (gr_cnt x (gy_L R ko vo)))) :
    ∀ d i n : Nat, i + d = R → d < n → wY_count_4 post x (nI R) fl ce en ko vo so ks fd sB bf n (nI (gr_cnt x (gy_L i ko vo))) (nI i) := by
  intro d
  induction d with
  | zero =>
    intro i n hi hn
    obtain ⟨n, rfl⟩ : ∃ a, n = a + 1 := ⟨n - 1, by omega⟩
    have e : i = R := by omega
    subst e
    exact br_t (nI_le (Nat.le_refl _) (by omega)) K
  | succ d ih =>
    intro i n hi hn
    obtain ⟨n, rfl⟩ : ∃ a, n = a + 1 := ⟨n - 1, by omega⟩
    have h := ih (i + 1) n (by omega) (by omega)
    rw [gy_L_s, gr_cnt_sn] at h
    refine br_f (nI_ge (by omega) (by omega)) ⟨vp_in_nI (by omega) (by omega), ?_⟩
    rw [nI_clamp (by omega)]
    refine br_c (fun c => nm_r (nI_1 _) (nm_r (nI_1 i) ?_)) (fun c => nm_r (nI_1 i) ?_)
    · rw [if_pos c] at h; exact h
    · rw [if_neg c] at h; exact h
theorem gy_count {post : Int32 → Prop} {x : Int32} (hR : R ≤ 40) (K : post (nI (gr_cnt x (gy_L R ko vo)))) : wpY_count post (nI R, fl, ce, en, ko, vo, so, ks, fd, sB, bf) x :=
  ⟨R + 1, gy_count4 hR K R 0 (R + 1) (by omega) (by omega)⟩
theorem gy_sum4 {post : Int32 → Prop} {x : Int32} (hR : R ≤ 40) (K : post (gr_sum x (gy_L R ko vo))) :
    ∀ d i n : Nat, i + d = R → d < n → wY_sum_4 post x (nI R) fl ce en ko vo so ks fd sB bf n (gr_sum x (gy_L i ko vo)) (nI i) := by
  intro d
  induction d with
  | zero =>
    intro i n hi hn
    obtain ⟨n, rfl⟩ : ∃ a, n = a + 1 := ⟨n - 1, by omega⟩
    have e : i = R := by omega
    subst e
    exact br_t (nI_le (Nat.le_refl _) (by omega)) K
  | succ d ih =>
    intro i n hi hn
    obtain ⟨n, rfl⟩ : ∃ a, n = a + 1 := ⟨n - 1, by omega⟩
    have h := ih (i + 1) n (by omega) (by omega)
    rw [gy_L_s, gr_sum_sn] at h
    have v : vp_in (nI i) 40 := vp_in_nI (by omega) (by omega)
    refine br_f (nI_ge (by omega) (by omega)) ⟨v, ?_⟩
    rw [nI_clamp (by omega)]
    refine br_c (fun c => ⟨v, nm_e (nm_r (nI_1 i) ?_)⟩) (fun c => nm_r (nI_1 i) ?_)
    · rw [if_pos c] at h; exact h
    · rw [if_neg c, Int32.add_zero] at h; exact h
theorem gy_sum {post : Int32 → Prop} {x : Int32} (hR : R ≤ 40) (K : post (gr_sum x (gy_L R ko vo))) : wpY_sum post (nI R, fl, ce, en, ko, vo, so, ks, fd, sB, bf) x :=
  ⟨R + 1, gy_sum4 hR K R 0 (R + 1) (by omega) (by omega)⟩
theorem gy_equal5 {post : Int32 → Prop} {x y : Int32} (hR : R ≤ 40) (K : post (nI (gr_eqc x y (gy_L R ko vo)))) :
    ∀ d i n : Nat, i + d = R → d < n → wY_equal_5 post x y (nI R) fl ce en ko vo so ks fd sB bf n (nI (gr_eqc x y (gy_L i ko vo))) (nI i) := by
  intro d
  induction d with
  | zero =>
    intro i n hi hn
    obtain ⟨n, rfl⟩ : ∃ a, n = a + 1 := ⟨n - 1, by omega⟩
    have e : i = R := by omega
    subst e
    exact br_t (nI_le (Nat.le_refl _) (by omega)) K
  | succ d ih =>
    intro i n hi hn
    obtain ⟨n, rfl⟩ : ∃ a, n = a + 1 := ⟨n - 1, by omega⟩
    have h := ih (i + 1) n (by omega) (by omega)
    rw [gy_L_s, gr_eqc_sn] at h
    have v : vp_in (nI i) 40 := vp_in_nI (by omega) (by omega)
    refine br_f (nI_ge (by omega) (by omega)) ⟨v, ?_⟩
    rw [nI_clamp (by omega)]
    refine br_c (fun c => ⟨v, br_c (fun c2 => nm_r (nI_1 _) (nm_r (nI_1 i) ?_)) (fun c2 => nm_r (nI_1 i) ?_)⟩) (fun c => nm_r (nI_1 i) ?_)
    · rw [if_pos ⟨c, c2⟩] at h; exact h
    · rw [if_neg (fun q => c2 q.2)] at h; exact h
    · rw [if_neg (fun q => c q.1)] at h; exact h
theorem gy_equal {post : Int32 → Prop} {x y : Int32} (hR : R ≤ 40) (K : post (nI (gr_eqc x y (gy_L R ko vo)))) : wpY_equal post (nI R, fl, ce, en, ko, vo, so, ks, fd, sB, bf) x y :=
  ⟨R + 1, gy_equal5 hR K R 0 (R + 1) (by omega) (by omega)⟩
theorem gy_below5 {post : Int32 → Prop} {x y : Int32} (hR : R ≤ 40) (K : post (nI (gr_low x y (gy_L R ko vo)))) :
    ∀ d i n : Nat, i + d = R → d < n → wY_below_5 post x y (nI R) fl ce en ko vo so ks fd sB bf n (nI (gr_low x y (gy_L i ko vo))) (nI i) := by
  intro d
  induction d with
  | zero =>
    intro i n hi hn
    obtain ⟨n, rfl⟩ : ∃ a, n = a + 1 := ⟨n - 1, by omega⟩
    have e : i = R := by omega
    subst e
    exact br_t (nI_le (Nat.le_refl _) (by omega)) K
  | succ d ih =>
    intro i n hi hn
    obtain ⟨n, rfl⟩ : ∃ a, n = a + 1 := ⟨n - 1, by omega⟩
    have h := ih (i + 1) n (by omega) (by omega)
    rw [gy_L_s, gr_low_sn] at h
    have v : vp_in (nI i) 40 := vp_in_nI (by omega) (by omega)
    refine br_f (nI_ge (by omega) (by omega)) ⟨v, ?_⟩
    rw [nI_clamp (by omega)]
    refine br_c (fun c => ⟨v, br_c (fun c2 => nm_r (nI_1 i) ?_) (fun c2 => nm_r (nI_1 _) (nm_r (nI_1 i) ?_))⟩) (fun c => nm_r (nI_1 i) ?_)
    · rw [if_neg (fun q => absurd c2 (Int32.not_le.mpr q.2))] at h; exact h
    · rw [if_pos ⟨c, Int32.not_le.mp c2⟩] at h; exact h
    · rw [if_neg (fun q => c q.1)] at h; exact h
theorem gy_below {post : Int32 → Prop} {x y : Int32} (hR : R ≤ 40) (K : post (nI (gr_low x y (gy_L R ko vo)))) : wpY_below post (nI R, fl, ce, en, ko, vo, so, ks, fd, sB, bf) x y :=
  ⟨R + 1, gy_below5 hR K R 0 (R + 1) (by omega) (by omega)⟩
theorem gy_seen2 {post : Int32 → Prop} {i : Nat} (hi : i < 40) (K1 : (ko i, vo i) ∈ gy_L i ko vo → post 1) (K0 : ¬ (ko i, vo i) ∈ gy_L i ko vo → post 0) :
    ∀ d j n : Nat, j + d = i → d < n → ¬ (ko i, vo i) ∈ gy_L j ko vo → wY_seenBefore_2 post (nI i) (nI R) fl ce en ko vo so ks fd sB bf n (nI j) := by
  intro d
  induction d with
  | zero =>
    intro j n hj hn hz
    obtain ⟨n, rfl⟩ : ∃ a, n = a + 1 := ⟨n - 1, by omega⟩
    have e : j = i := by omega
    subst e
    exact br_t (nI_le (Nat.le_refl _) (by omega)) (K0 hz)
  | succ d ih =>
    intro j n hj hn hz
    obtain ⟨n, rfl⟩ : ∃ a, n = a + 1 := ⟨n - 1, by omega⟩
    have v : vp_in (nI i) 40 := vp_in_nI (by omega) (by omega)
    have w : vp_in (nI j) 40 := vp_in_nI (by omega) (by omega)
    have h : ¬ (ko j, vo j) = (ko i, vo i) → wY_seenBefore_2 post (nI i) (nI R) fl ce en ko vo so ks fd sB bf n (nI (j + 1)) := by
      intro q
      refine ih (j + 1) n (by omega) (by omega) ?_
      rw [gy_L_s, List.mem_append, List.mem_singleton]
      intro c
      rcases c with c | c
      · exact hz c
      · exact q c.symm
    refine br_f (nI_ge (by omega) (by omega)) ⟨w, v, ?_⟩
    rw [nI_clamp (n := j) (by omega), nI_clamp (n := i) (by omega)]
    refine br_c (fun c => ⟨w, v, br_c (fun c2 => K1 ?_) (fun c2 => nm_r (nI_1 j) (h ?_))⟩) (fun c => nm_r (nI_1 j) (h ?_))
    · exact gy_L_mem.mpr ⟨j, by omega, by rw [c, c2]⟩
    · intro q; exact c2 (congrArg Prod.snd q)
    · intro q; exact c (congrArg Prod.fst q)
theorem gy_seen {post : Int32 → Prop} {i : Nat} (hi : i < 40) (K1 : (ko i, vo i) ∈ gy_L i ko vo → post 1) (K0 : ¬ (ko i, vo i) ∈ gy_L i ko vo → post 0) : wpY_seenBefore post (nI R, fl, ce, en, ko, vo, so, ks, fd, sB, bf) (nI i) :=
  ⟨i + 1, gy_seen2 hi K1 K0 i 0 (i + 1) (by omega) (by omega) (fun h => absurd h List.not_mem_nil)⟩
theorem gy_diff4 {post : Int32 → Prop} {x : Int32} (hR : R ≤ 40) (K : post (nI (gr_df x (gy_L R ko vo)))) :
    ∀ d i n : Nat, i + d = R → d < n → wY_different_4 post x (nI R) fl ce en ko vo so ks fd sB bf n (nI (gr_df x (gy_L i ko vo))) (nI i) := by
  intro d
  induction d with
  | zero =>
    intro i n hi hn
    obtain ⟨n, rfl⟩ : ∃ a, n = a + 1 := ⟨n - 1, by omega⟩
    have e : i = R := by omega
    subst e
    exact br_t (nI_le (Nat.le_refl _) (by omega)) K
  | succ d ih =>
    intro i n hi hn
    obtain ⟨n, rfl⟩ : ∃ a, n = a + 1 := ⟨n - 1, by omega⟩
    have h := ih (i + 1) n (by omega) (by omega)
    rw [gy_L_s, gr_df_sn] at h
    have v : vp_in (nI i) 40 := vp_in_nI (by omega) (by omega)
    refine br_f (nI_ge (by omega) (by omega)) ⟨v, ?_⟩
    rw [nI_clamp (by omega)]
    refine br_c (fun c => gy_seen (by omega) (fun s => br_f (by decide) (nm_r (nI_1 i) ?_)) (fun s => br_t rfl (nm_r (nI_1 _) (nm_r (nI_1 i) ?_)))) (fun c => nm_r (nI_1 i) ?_)
    · rw [if_neg (fun q => q.2 s)] at h; exact h
    · rw [if_pos ⟨c, s⟩] at h; exact h
    · rw [if_neg (fun q => c q.1)] at h; exact h
theorem gy_diff {post : Int32 → Prop} {x : Int32} (hR : R ≤ 40) (K : post (nI (gr_df x (gy_L R ko vo)))) : wpY_different post (nI R, fl, ce, en, ko, vo, so, ks, fd, sB, bf) x :=
  ⟨R + 1, gy_diff4 hR K R 0 (R + 1) (by omega) (by omega)⟩
theorem gy_ranked2 {post : Int32 → Prop} {k v : Int32} {j : Nat} (hR : R ≤ 40) (hj : j < 1000) (hs : gr_is k j (gy_L R ko vo) v) (K : post v) :
    ∀ d i n : Nat, i + d = R → d < n → ¬ (k, v) ∈ gy_L i ko vo → wY_ranked_2 post k (nI j) (nI R) fl ce en ko vo so ks fd sB bf n (nI i) := by
  intro d
  induction d with
  | zero =>
    intro i n hi hn hz
    have e : i = R := by omega
    subst e
    exact absurd hs.1 hz
  | succ d ih =>
    intro i n hi hn hz
    obtain ⟨n, rfl⟩ : ∃ a, n = a + 1 := ⟨n - 1, by omega⟩
    have w : vp_in (nI i) 40 := vp_in_nI (by omega) (by omega)
    have h : ¬ (ko i, vo i) = (k, v) → wY_ranked_2 post k (nI j) (nI R) fl ce en ko vo so ks fd sB bf n (nI (i + 1)) := by
      intro q
      refine ih (i + 1) n (by omega) (by omega) ?_
      rw [gy_L_s, List.mem_append, List.mem_singleton]
      intro c
      rcases c with c | c
      · exact hz c
      · exact q c.symm
    refine br_f (nI_ge (by omega) (by omega)) ⟨w, ?_⟩
    rw [nI_clamp (by omega)]
    have l1 := gr_low_le k (vo i) (gy_L R ko vo)
    have l2 := gr_eqc_le k (vo i) (gy_L R ko vo)
    rw [gy_L_len] at l1 l2
    refine gy_below hR ⟨w, gy_equal hR ⟨w, ?_⟩⟩
    refine br_c (fun c => ?_) (fun c => nm_r (nI_1 i) (h (fun q => c (congrArg Prod.fst q))))
    refine pk_lt j (gr_low k (vo i) (gy_L R ko vo)) (fun c1 => nm_r (nI_1 i) (h ?_)) (fun c1 => ?_) rfl rfl (by omega) (by omega)
    · intro q
      have e : vo i = v := congrArg Prod.snd q
      rw [e] at c1
      have := hs.2.1
      omega
    · refine pk_le (gr_low k (vo i) (gy_L R ko vo) + gr_eqc k (vo i) (gy_L R ko vo)) j (fun c2 => nm_r (nI_1 i) (h ?_)) (fun c2 => ⟨w, ?_⟩) (nI_add _ _) rfl (by omega) (by omega)
      · intro q
        have e : vo i = v := congrArg Prod.snd q
        rw [e] at c2
        have := hs.2.2
        omega
      · have e : vo i = v := gr_is_u ⟨gy_L_mem.mpr ⟨i, by omega, by rw [c]⟩, c1, c2⟩ hs
        rw [e]; exact K
theorem gy_ranked {post : Int32 → Prop} {k : Int32} {j : Nat} (hR : R ≤ 40) (hj : j < 1000) (hs : ∃ v, gr_is k j (gy_L R ko vo) v) (K : post (gr_rk k j (gy_L R ko vo))) : wpY_ranked post (nI R, fl, ce, en, ko, vo, so, ks, fd, sB, bf) k (nI j) := by
  obtain ⟨v, hv⟩ := hs
  rw [gr_rk_eq hv] at K
  exact ⟨R + 1, gy_ranked2 hR hj hv K R 0 (R + 1) (by omega) (by omega) (fun h => absurd h List.not_mem_nil)⟩
/-- every rank of a group is held by a value -/
def gy_ex (L : List gr_R) (k : Int32) : Prop := ∀ j, j < gr_cnt k L → ∃ v, gr_is k j L v
theorem gy_shown {post : Int32 → Prop} {k : Int32} (hR : R ≤ 40) (K : post (gr_sh fl ce k (gy_L R ko vo))) : wpY_shown post (nI R, fl, ce, en, ko, vo, so, ks, fd, sB, bf) k := by
  have l1 := gr_cnt_le k (gy_L R ko vo)
  rw [gy_L_len] at l1
  unfold wpY_shown
  dsimp only
  refine gy_count hR ?_
  unfold gr_sh at K
  refine br_c (fun c => ?_) (fun c => br_c (fun c2 => ?_) (fun c2 => gy_diff hR (br_c (fun c3 => ?_) (fun c3 => ?_))))
  · rw [ga_le0 (by omega)] at c
    rw [if_pos c] at K; exact K
  · rw [ga_le0 (by omega)] at c
    rw [if_neg c, if_pos c2] at K; exact K
  · rw [ga_le0 (by omega)] at c
    rw [if_neg c, if_neg c2, if_pos c3] at K; exact K
  · rw [ga_le0 (by omega)] at c
    rw [if_neg c, if_neg c2, if_neg c3] at K; exact K
theorem gy_now {post : Int32 → Prop} {k : Int32} (hR : R ≤ 40) (hx : gy_ex (gy_L R ko vo) k) : ∀ f, f < 6 → post (gr_nw k (gy_L R ko vo) f) → wpY_now post (nI R, fl, ce, en, ko, vo, so, ks, fd, sB, bf) k (nI f) := by
  have l1 := gr_cnt_le k (gy_L R ko vo)
  rw [gy_L_len] at l1
  intro f hf K
  unfold wpY_now
  dsimp only
  refine gy_count hR ?_
  refine br_c (fun c => ?_) (fun c => ?_)
  · rw [ga_eq0 (by omega)] at c
    rw [gr_nw_z c] at K; exact K
  · rw [ga_eq0 (by omega)] at c
    have nf : ∀ a b : Nat, a < 6 → b < 6 → a ≠ b → ¬ nI a = nI b := fun a b ha hb h e => h (ga_im e (by omega) (by omega))
    obtain h | h | h | h | h | h : f = 0 ∨ f = 1 ∨ f = 2 ∨ f = 3 ∨ f = 4 ∨ f = 5 := by omega
    · subst h
      rw [gr_nw_0 c] at K
      exact br_t rfl K
    · subst h
      rw [gr_nw_1 c] at K
      exact br_f (by decide) (br_t rfl (gy_sum hR K))
    · subst h
      rw [gr_nw_2 c] at K
      exact br_f (by decide) (br_f (by decide) (br_t rfl (gy_ranked (j := 0) hR (by omega) (hx 0 (by omega)) K)))
    · subst h
      rw [gr_nw_3 c] at K
      refine br_f (by decide) (br_f (by decide) (br_f (by decide) (br_t rfl ?_)))
      rw [ga_s1 (by omega)]
      exact gy_ranked hR (by omega) (hx _ (by omega)) K
    · subst h
      rw [gr_nw_4 c] at K
      exact br_f (by decide) (br_f (by decide) (br_f (by decide) (br_f (by decide) (br_t rfl (gy_diff hR K)))))
    · subst h
      rw [gr_nw_5 c] at K
      refine br_f (by decide) (br_f (by decide) (br_f (by decide) (br_f (by decide) (br_f (by decide) (br_t rfl ⟨by decide, ?_⟩)))))
      rw [ga_s1 (by omega), show (2 : Int32) = nI 2 from rfl, pk_div (by omega) (by omega) (by omega)]
      exact gy_ranked hR (by omega) (hx _ (by omega)) K
theorem gy_now_out {post : Int32 → Prop} {k p : Int32} (hR : R ≤ 40) (hp : ∀ f, f < 6 → ¬ p = nI f) (K : post 0) : wpY_now post (nI R, fl, ce, en, ko, vo, so, ks, fd, sB, bf) k p := by
  unfold wpY_now
  dsimp only
  refine gy_count hR ?_
  exact br_c (fun _ => K) (fun _ => br_f (hp 0 (by omega)) (br_f (hp 1 (by omega)) (br_f (hp 2 (by omega)) (br_f (hp 3 (by omega)) (br_f (hp 4 (by omega)) (br_f (hp 5 (by omega)) K))))))
theorem gy_now_0 {post : Int32 → Prop} {k p : Int32} (hR : R ≤ 40) (hc : gr_cnt k (gy_L R ko vo) = 0) (K : post 0) : wpY_now post (nI R, fl, ce, en, ko, vo, so, ks, fd, sB, bf) k p := by
  unfold wpY_now
  dsimp only
  refine gy_count hR ?_
  exact br_t (by rw [hc]; rfl) K
end gyq
end
section
/-! the reference: remember, tell -/
noncomputable def gl_tell (sb sa : Nat → Int32) (b a : Nat → Nat → Int32) : Nat → gl_G → gl_G
  | 0, g => g
  | k + 1, g => gl_lg (sb k) (sa k) (b k) (a k) (nI k) (gl_tell sb sa b a k g)
theorem gl_tell_1 (sb sa : Nat → Int32) (b a : Nat → Nat → Int32) : ∀ (k : Nat) (g : gl_G), (gl_tell sb sa b a k g).1 ≤ g.1 + 2 * k := by
  intro k
  induction k with
  | zero => intro g; show g.1 ≤ g.1 + 2 * 0; omega
  | succ k ih =>
    intro g
    have h1 := ih g
    have h2 := (gl_lg_1 (sb k) (sa k) (nI k) (b k) (a k) (gl_tell sb sa b a k g)).2
    show (gl_lg (sb k) (sa k) (b k) (a k) (nI k) (gl_tell sb sa b a k g)).1 ≤ _
    omega
/-- only one group has changed -/
theorem gl_tell_one {sb sa : Nat → Int32} {b a : Nat → Nat → Int32} {c : Nat} (h : ∀ k, k < 8 → k ≠ c → sb k = sa k ∧ ∀ f, f < 6 → b k f = a k f) : ∀ (k : Nat) (g : gl_G), k ≤ 8 → gl_tell sb sa b a k g = if k ≤ c then g else gl_lg (sb c) (sa c) (b c) (a c) (nI c) g := by
  intro k
  induction k with
  | zero => intro g _; rw [if_pos (Nat.zero_le _)]; rfl
  | succ k ih =>
    intro g hk
    show gl_lg (sb k) (sa k) (b k) (a k) (nI k) (gl_tell sb sa b a k g) = _
    rw [ih g (by omega)]
    by_cases e : k = c
    · subst e
      rw [if_pos (Nat.le_refl _), if_neg (by omega)]
    · obtain ⟨h1, h2⟩ := h k (by omega) e
      rw [h1, gl_lg_s h2]
      by_cases d : k ≤ c
      · rw [if_pos d, if_pos (by omega)]
      · rw [if_neg d, if_neg (by omega)]
section gyt
variable {R : Nat} {fl ce en : Int32} {ko vo so ks fd sB bf : Nat → Int32}
theorem ga_vbo {x : Int32} (h : x = 0 ∨ x = 1) : vp_nar .boolean x = x := by
  rcases h with h | h
  · rw [h]; exact ga_vb0
  · rw [h]; exact ga_vb1
theorem gy_rem21 {post : SY → Prop} {J2 : Int32 → (Nat → Int32) → (Nat → Int32) → (Nat → Int32) → (Nat → Int32) → (Nat → Int32) → (Nat → Int32) → (Nat → Int32) → Prop} {k : Nat} (hR : R ≤ 40) (hk : k < 8) (hx : gy_ex (gy_L R ko vo) (nI k))
    (K : ∀ bf' : Nat → Int32, (∀ j, j < 6 * k → bf' j = bf j) → (∀ f, f < 6 → bf' (6 * k + f) = gr_nw (nI k) (gy_L R ko vo) f) → J2 (nI (k + 1)) ko vo so ks fd sB bf') :
    ∀ (d i n : Nat) (bf1 : Nat → Int32), i + d = 6 → d < n → (∀ j, j < 6 * k → bf1 j = bf j) → (∀ f, f < i → bf1 (6 * k + f) = gr_nw (nI k) (gy_L R ko vo) f) → wY_remember_21 post J2 (nI k) (nI R) fl ce en n (nI i) ko vo so ks fd sB bf1 := by
  intro d
  induction d with
  | zero =>
    intro i n bf1 hi hn h1 h2
    obtain ⟨n, rfl⟩ : ∃ a, n = a + 1 := ⟨n - 1, by omega⟩
    have e : i = 6 := by omega
    subst e
    exact br_t (by decide) (nm_r (nI_1 k) (K bf1 h1 h2))
  | succ d ih =>
    intro i n bf1 hi hn h1 h2
    obtain ⟨n, rfl⟩ : ∃ a, n = a + 1 := ⟨n - 1, by omega⟩
    refine br_f (ga_6 (by omega)) (gy_now hR hx i (by omega) ?_)
    rw [ga_6m, nI_add, nI_clamp (by omega)]
    refine ⟨vp_in_nI (by omega) (by omega), nm_e (nm_r (nI_1 i) (ih (i + 1) n _ (by omega) (by omega) (fun j hj => ?_) (fun f hf => ?_)))⟩
    · rw [pk_un (by omega)]; exact h1 j hj
    · by_cases c : f = i
      · rw [c, pk_us]
      · rw [pk_un (by omega)]; exact h2 f (by omega)
theorem gy_rem2 {post : SY → Prop} (hR : R ≤ 40) (hx : ∀ k, k < 8 → gy_ex (gy_L R ko vo) (nI k))
    (K : ∀ sB' bf' : Nat → Int32, (∀ k, k < 8 → sB' k = gr_sh fl ce (nI k) (gy_L R ko vo)) → (∀ k, k < 8 → ∀ f, f < 6 → bf' (6 * k + f) = gr_nw (nI k) (gy_L R ko vo) f) → post (nI R, fl, ce, en, ko, vo, so, ks, fd, sB', bf')) :
    ∀ (d i n : Nat) (sB bf : Nat → Int32), i + d = 8 → d < n → (∀ k, k < i → sB k = gr_sh fl ce (nI k) (gy_L R ko vo)) → (∀ k, k < i → ∀ f, f < 6 → bf (6 * k + f) = gr_nw (nI k) (gy_L R ko vo) f) → wY_remember_2 post (nI R) fl ce en n (nI i) ko vo so ks fd sB bf := by
  intro d
  induction d with
  | zero =>
    intro i n sB bf hi hn h1 h2
    obtain ⟨n, rfl⟩ : ∃ a, n = a + 1 := ⟨n - 1, by omega⟩
    have e : i = 8 := by omega
    subst e
    exact br_t (by decide) (K sB bf h1 h2)
  | succ d ih =>
    intro i n sB bf hi hn h1 h2
    obtain ⟨n, rfl⟩ : ∃ a, n = a + 1 := ⟨n - 1, by omega⟩
    refine br_f (nI_ge (b := 8) (by omega) (by decide)) (gy_shown hR ?_)
    rw [nI_clamp (by omega), ga_vbo (gr_sh_01 _ _ _ _)]
    refine ⟨vp_in_nI (by omega) (by omega), nm_e ⟨7, ?_⟩⟩
    refine gy_rem21 (bf := bf) hR (by omega) (hx i (by omega)) ?_ 6 0 7 bf rfl (by omega) (fun _ _ => rfl) (fun f hf => absurd hf (Nat.not_lt_zero _))
    intro bf' e1 e2
    refine ih (i + 1) n _ bf' (by omega) (by omega) (fun k hk => ?_) (fun k hk f hf => ?_)
    · by_cases c : k = i
      · rw [c, pk_us]
      · rw [pk_un c]; exact h1 k (by omega)
    · by_cases c : k = i
      · rw [c]; exact e2 f hf
      · rw [e1 _ (by omega)]; exact h2 k (by omega) f hf
theorem gy_remember {post : SY → Prop} (hR : R ≤ 40) (hx : ∀ k, k < 8 → gy_ex (gy_L R ko vo) (nI k))
    (K : ∀ sB' bf' : Nat → Int32, (∀ k, k < 8 → sB' k = gr_sh fl ce (nI k) (gy_L R ko vo)) → (∀ k, k < 8 → ∀ f, f < 6 → bf' (6 * k + f) = gr_nw (nI k) (gy_L R ko vo) f) → post (nI R, fl, ce, en, ko, vo, so, ks, fd, sB', bf')) :
    wpY_remember post (nI R, fl, ce, en, ko, vo, so, ks, fd, sB, bf) :=
  ⟨9, gy_rem2 hR hx K 8 0 9 sB bf rfl (by omega) (fun k hk => absurd hk (Nat.not_lt_zero _)) (fun k hk => absurd hk (Nat.not_lt_zero _))⟩
theorem gy_same2 {post : Int32 → Prop} {k : Nat} (hR : R ≤ 40) (hk : k < 8) (hx : gy_ex (gy_L R ko vo) (nI k))
    (K1 : (∀ f, f < 6 → bf (6 * k + f) = gr_nw (nI k) (gy_L R ko vo) f) → post 1) (K0 : ¬ (∀ f, f < 6 → bf (6 * k + f) = gr_nw (nI k) (gy_L R ko vo) f) → post 0) :
    ∀ d i n : Nat, i + d = 6 → d < n → (∀ f, f < i → bf (6 * k + f) = gr_nw (nI k) (gy_L R ko vo) f) → wY_sameAsBefore_2 post (nI k) (nI R) fl ce en ko vo so ks fd sB bf n (nI i) := by
  intro d
  induction d with
  | zero =>
    intro i n hi hn h1
    obtain ⟨n, rfl⟩ : ∃ a, n = a + 1 := ⟨n - 1, by omega⟩
    have e : i = 6 := by omega
    subst e
    exact br_t (by decide) (K1 h1)
  | succ d ih =>
    intro i n hi hn h1
    obtain ⟨n, rfl⟩ : ∃ a, n = a + 1 := ⟨n - 1, by omega⟩
    refine br_f (ga_6 (by omega)) ?_
    rw [ga_6m, nI_add, nI_clamp (by omega)]
    refine ⟨vp_in_nI (by omega) (by omega), gy_now hR hx i (by omega) ?_⟩
    refine br_c (fun c => nm_r (nI_1 i) (ih (i + 1) n (by omega) (by omega) (fun f hf => ?_))) (fun c => K0 (fun q => c (q i (by omega))))
    by_cases e : f = i
    · rw [e]; exact c
    · exact h1 f (by omega)
theorem gy_same {post : Int32 → Prop} {k : Nat} (hR : R ≤ 40) (hk : k < 8) (hx : gy_ex (gy_L R ko vo) (nI k))
    (K1 : (∀ f, f < 6 → bf (6 * k + f) = gr_nw (nI k) (gy_L R ko vo) f) → post 1) (K0 : ¬ (∀ f, f < 6 → bf (6 * k + f) = gr_nw (nI k) (gy_L R ko vo) f) → post 0) :
    wpY_sameAsBefore post (nI R, fl, ce, en, ko, vo, so, ks, fd, sB, bf) (nI k) :=
  ⟨7, gy_same2 hR hk hx K1 K0 6 0 7 rfl (by omega) (fun f hf => absurd hf (Nat.not_lt_zero _))⟩
/-! enter -/
theorem gy_ent1 {post : SY → Prop} {k m : Nat} (hk : k < 8) (hm : m < 24) (K : post (nI R, fl, ce, nI (m + 1), ko, vo, so, ks, gl_wi fd m (fun f => bf (6 * k + f)) 6, sB, bf)) :
    ∀ d i n : Nat, i + d = 6 → d < n → wY_enter_32 post 1 (nI k) (nI R) fl ce (nI m) n (nI i) ko vo so ks (gl_wi fd m (fun f => bf (6 * k + f)) i) sB bf := by
  intro d
  induction d with
  | zero =>
    intro i n hi hn
    obtain ⟨n, rfl⟩ : ∃ a, n = a + 1 := ⟨n - 1, by omega⟩
    have e : i = 6 := by omega
    subst e
    exact br_t (by decide) (nm_r (nI_1 m) K)
  | succ d ih =>
    intro i n hi hn
    obtain ⟨n, rfl⟩ : ∃ a, n = a + 1 := ⟨n - 1, by omega⟩
    refine br_f (ga_6 (by omega)) (br_t rfl ?_)
    rw [ga_6m, ga_6m, nI_add, nI_add, nI_clamp (n := 6 * k + i) (by omega), nI_clamp (n := 6 * m + i) (by omega)]
    exact ⟨vp_in_nI (by omega) (by omega), vp_in_nI (by omega) (by omega), nm_r (gl_wi_s fd m (fun f => bf (6 * k + f)) i) (nm_r (nI_1 i) (ih (i + 1) n (by omega) (by omega)))⟩
theorem gy_ent2 {post : SY → Prop} {k m : Nat} (hR : R ≤ 40) (hm : m < 24) (hx : gy_ex (gy_L R ko vo) (nI k)) (K : post (nI R, fl, ce, nI (m + 1), ko, vo, so, ks, gl_wi fd m (gr_nw (nI k) (gy_L R ko vo)) 6, sB, bf)) :
    ∀ d i n : Nat, i + d = 6 → d < n → wY_enter_32 post 2 (nI k) (nI R) fl ce (nI m) n (nI i) ko vo so ks (gl_wi fd m (gr_nw (nI k) (gy_L R ko vo)) i) sB bf := by
  intro d
  induction d with
  | zero =>
    intro i n hi hn
    obtain ⟨n, rfl⟩ : ∃ a, n = a + 1 := ⟨n - 1, by omega⟩
    have e : i = 6 := by omega
    subst e
    exact br_t (by decide) (nm_r (nI_1 m) K)
  | succ d ih =>
    intro i n hi hn
    obtain ⟨n, rfl⟩ : ∃ a, n = a + 1 := ⟨n - 1, by omega⟩
    refine br_f (ga_6 (by omega)) (br_f (by decide) (gy_now hR hx i (by omega) ?_))
    rw [ga_6m, nI_add, nI_clamp (n := 6 * m + i) (by omega)]
    exact ⟨vp_in_nI (by omega) (by omega), nm_r (gl_wi_s fd m (gr_nw (nI k) (gy_L R ko vo)) i) (nm_r (nI_1 i) (ih (i + 1) n (by omega) (by omega)))⟩
theorem gy_enter1 {post : SY → Prop} {k : Nat} {g : gl_G} {b : Nat → Int32} (hk : k < 8) (hm : g.1 < 24) (hb : ∀ f, f < 6 → bf (6 * k + f) = b f)
    (K : post (nI R, fl, ce, nI (gl_en 1 (nI k) b g).1, ko, vo, (gl_en 1 (nI k) b g).2.1, (gl_en 1 (nI k) b g).2.2.1, (gl_en 1 (nI k) b g).2.2.2, sB, bf)) :
    wpY_enter post (nI R, fl, ce, nI g.1, ko, vo, g.2.1, g.2.2.1, g.2.2.2, sB, bf) 1 (nI k) := by
  rw [← gl_en_c (F := fun f => bf (6 * k + f)) hb] at K
  have v : vp_in (nI g.1) 24 := vp_in_nI hm (by omega)
  unfold wpY_enter
  dsimp only
  rw [nI_clamp (by omega)]
  refine br_f (fun q => absurd (ga_im (b := 24) q (by omega) (by omega)) (by omega)) ⟨v, nm_e ⟨v, nm_e ⟨7, ?_⟩⟩⟩
  have h := gy_ent1 (post := post) (R := R) (fl := fl) (ce := ce) (ko := ko) (vo := vo) (so := upd g.2.1 g.1 1) (ks := upd g.2.2.1 g.1 (nI k)) (fd := g.2.2.2) (sB := sB) (bf := bf) hk hm K 6 0 7 rfl (by omega)
  rw [gl_wi_0] at h
  exact h
theorem gy_enter2 {post : SY → Prop} {k : Nat} {g : gl_G} (hR : R ≤ 40) (hm : g.1 < 24) (hx : gy_ex (gy_L R ko vo) (nI k))
    (K : post (nI R, fl, ce, nI (gl_en 2 (nI k) (gr_nw (nI k) (gy_L R ko vo)) g).1, ko, vo, (gl_en 2 (nI k) (gr_nw (nI k) (gy_L R ko vo)) g).2.1, (gl_en 2 (nI k) (gr_nw (nI k) (gy_L R ko vo)) g).2.2.1, (gl_en 2 (nI k) (gr_nw (nI k) (gy_L R ko vo)) g).2.2.2, sB, bf)) :
    wpY_enter post (nI R, fl, ce, nI g.1, ko, vo, g.2.1, g.2.2.1, g.2.2.2, sB, bf) 2 (nI k) := by
  have v : vp_in (nI g.1) 24 := vp_in_nI hm (by omega)
  unfold wpY_enter
  dsimp only
  rw [nI_clamp (by omega)]
  refine br_f (fun q => absurd (ga_im (b := 24) q (by omega) (by omega)) (by omega)) ⟨v, nm_e ⟨v, nm_e ⟨7, ?_⟩⟩⟩
  have h := gy_ent2 (post := post) (R := R) (fl := fl) (ce := ce) (ko := ko) (vo := vo) (so := upd g.2.1 g.1 2) (ks := upd g.2.2.1 g.1 (nI k)) (fd := g.2.2.2) (sB := sB) (bf := bf) hR hm hx K 6 0 7 rfl (by omega)
  rw [gl_wi_0] at h
  exact h
/-! tell -/
theorem gy_tell2 {post : SY → Prop} {sb : Nat → Int32} {b : Nat → Nat → Int32} {g : gl_G} (hR : R ≤ 40) (hx : ∀ k, k < 8 → gy_ex (gy_L R ko vo) (nI k)) (h1 : ∀ k, k < 8 → sB k = sb k) (h2 : ∀ k, k < 8 → ∀ f, f < 6 → bf (6 * k + f) = b k f)
    (room : ∀ k, k ≤ 8 → (gl_tell sb (fun k => gr_sh fl ce (nI k) (gy_L R ko vo)) b (fun k => gr_nw (nI k) (gy_L R ko vo)) k g).1 ≤ 24)
    (K : ∀ g' : gl_G, g' = gl_tell sb (fun k => gr_sh fl ce (nI k) (gy_L R ko vo)) b (fun k => gr_nw (nI k) (gy_L R ko vo)) 8 g → post (nI R, fl, ce, nI g'.1, ko, vo, g'.2.1, g'.2.2.1, g'.2.2.2, sB, bf)) :
    ∀ (d k n : Nat) (g' : gl_G), k + d = 8 → d < n → g' = gl_tell sb (fun k => gr_sh fl ce (nI k) (gy_L R ko vo)) b (fun k => gr_nw (nI k) (gy_L R ko vo)) k g →
      wY_tell_2 post n (nI k) (nI R) fl ce (nI g'.1) ko vo g'.2.1 g'.2.2.1 g'.2.2.2 sB bf := by
  intro d
  induction d with
  | zero =>
    intro k n g' hk hn hg
    obtain ⟨n, rfl⟩ : ∃ a, n = a + 1 := ⟨n - 1, by omega⟩
    have e : k = 8 := by omega
    subst e
    exact br_t (by decide) (K g' hg)
  | succ d ih =>
    intro k n g' hk hn hg
    obtain ⟨n, rfl⟩ : ∃ a, n = a + 1 := ⟨n - 1, by omega⟩
    have rm := room (k + 1) (by omega)
    have hk8 : k < 8 := by omega
    have hxk := hx k hk8
    obtain ⟨sa, esa⟩ : ∃ sa, sa = gr_sh fl ce (nI k) (gy_L R ko vo) := ⟨_, rfl⟩
    have stp : ∀ g2 : gl_G, g2 = gl_lg (sb k) sa (b k) (gr_nw (nI k) (gy_L R ko vo)) (nI k) g' → wY_tell_2 post n (nI (k + 1)) (nI R) fl ce (nI g2.1) ko vo g2.2.1 g2.2.2.1 g2.2.2.2 sB bf := by
      intro g2 h
      exact ih (k + 1) n g2 (by omega) (by omega) (by rw [h, hg, esa]; rfl)
    have rm' : (gl_lg (sb k) sa (b k) (gr_nw (nI k) (gy_L R ko vo)) (nI k) g').1 ≤ 24 := by rw [hg, esa]; exact rm
    have ebf : (∀ f, f < 6 → bf (6 * k + f) = gr_nw (nI k) (gy_L R ko vo) f) ↔ (∀ f, f < 6 → b k f = gr_nw (nI k) (gy_L R ko vo) f) :=
      ⟨fun q f hf => by rw [← h2 k hk8 f hf]; exact q f hf, fun q f hf => by rw [h2 k hk8 f hf]; exact q f hf⟩
    have v : vp_in (nI k) 8 := vp_in_nI (by omega) (by omega)
    have cl : (nI k).toNatClampNeg = k := nI_clamp (by omega)
    have eB : sB (nI k).toNatClampNeg = sb k := by rw [cl]; exact h1 k hk8
    refine br_f (nI_ge (b := 8) (by omega) (by decide)) (gy_shown hR ?_)
    rw [← esa]
    unfold gl_lg at stp rm'
    refine gy_same hR hk8 hxk (fun sm => ⟨v, ?_⟩) (fun sm => ⟨v, ?_⟩)
    · have sm' := ebf.mp sm
      refine br_c (fun c => ?_) (fun c => br_c (fun c2 => ?_) (fun c2 => br_f (by decide) ?_))
      · rw [eB] at c
        have nn : ¬ (¬ sb k = 0 ∧ ¬ sa = 0 ∧ ∀ f, f < 6 → b k f = gr_nw (nI k) (gy_L R ko vo) f) := fun q => q.1 c
        rw [if_neg nn, if_pos c] at stp rm'
        unfold wY_tell_43
        refine br_c (fun d1 => nm_r (nI_1 k) ?_) (fun d1 => ⟨v, br_t (by rw [eB]; exact c) ?_⟩)
        · rw [if_pos d1] at stp
          exact stp g' rfl
        · rw [if_neg d1] at stp rm'
          unfold wY_tell_60
          refine gy_enter2 hR (Nat.lt_of_succ_le rm') hxk ?_
          dsimp only
          exact nm_r (nI_1 k) (stp _ rfl)
      · rw [eB] at c
        have nn : ¬ (¬ sb k = 0 ∧ ¬ sa = 0 ∧ ∀ f, f < 6 → b k f = gr_nw (nI k) (gy_L R ko vo) f) := fun q => q.2.1 c2
        rw [if_neg nn, if_neg c, if_pos c2] at stp rm'
        unfold wY_tell_37
        refine gy_enter1 hk8 (Nat.lt_of_succ_le rm') (h2 k hk8) ?_
        dsimp only
        unfold wY_tell_43
        exact br_t c2 (nm_r (nI_1 k) (stp _ rfl))
      · rw [eB] at c
        rw [if_pos ⟨c, c2, sm'⟩] at stp
        unfold wY_tell_43
        exact br_f c2 ⟨v, br_f (by rw [eB]; exact c) (br_f (by decide) (nm_r (nI_1 k) (stp g' rfl)))⟩
    · have nn : ¬ (¬ sb k = 0 ∧ ¬ sa = 0 ∧ ∀ f, f < 6 → b k f = gr_nw (nI k) (gy_L R ko vo) f) := fun q => sm (ebf.mpr q.2.2)
      rw [if_neg nn] at stp rm'
      refine br_c (fun c => ?_) (fun c => ?_)
      · rw [eB] at c
        rw [if_pos c] at stp rm'
        unfold wY_tell_43
        refine br_c (fun d1 => nm_r (nI_1 k) ?_) (fun d1 => ⟨v, br_t (by rw [eB]; exact c) ?_⟩)
        · rw [if_pos d1] at stp
          exact stp g' rfl
        · rw [if_neg d1] at stp rm'
          unfold wY_tell_60
          refine gy_enter2 hR (Nat.lt_of_succ_le rm') hxk ?_
          dsimp only
          exact nm_r (nI_1 k) (stp _ rfl)
      · rw [eB] at c
        rw [if_neg c] at stp rm'
        have hm : g'.1 < 24 := by
          by_cases d1 : sa = 0
          · rw [if_pos d1] at rm'; exact Nat.lt_of_succ_le rm'
          · rw [if_neg d1] at rm'
            have : g'.1 + 1 + 1 ≤ 24 := rm'
            omega
        have t37 : wY_tell_37 post (wY_tell_2 post n) (nI k) sa 0 (nI R) fl ce (nI g'.1) ko vo g'.2.1 g'.2.2.1 g'.2.2.2 sB bf := by
          unfold wY_tell_37
          refine gy_enter1 hk8 hm (h2 k hk8) ?_
          dsimp only
          unfold wY_tell_43
          refine br_c (fun d1 => nm_r (nI_1 k) ?_) (fun d1 => ⟨v, br_f (by rw [eB]; exact c) (br_t rfl ?_)⟩)
          · rw [if_pos d1] at stp
            exact stp _ rfl
          · rw [if_neg d1] at stp rm'
            unfold wY_tell_60
            refine gy_enter2 hR (Nat.lt_of_succ_le rm') hxk ?_
            dsimp only
            exact nm_r (nI_1 k) (stp _ rfl)
        exact br_c (fun _ => t37) (fun _ => br_t rfl t37)
theorem gy_tell {post : SY → Prop} {sb : Nat → Int32} {b : Nat → Nat → Int32} {g : gl_G} (hR : R ≤ 40) (hx : ∀ k, k < 8 → gy_ex (gy_L R ko vo) (nI k)) (h1 : ∀ k, k < 8 → sB k = sb k) (h2 : ∀ k, k < 8 → ∀ f, f < 6 → bf (6 * k + f) = b k f)
    (room : ∀ k, k ≤ 8 → (gl_tell sb (fun k => gr_sh fl ce (nI k) (gy_L R ko vo)) b (fun k => gr_nw (nI k) (gy_L R ko vo)) k g).1 ≤ 24)
    (K : ∀ g' : gl_G, g' = gl_tell sb (fun k => gr_sh fl ce (nI k) (gy_L R ko vo)) b (fun k => gr_nw (nI k) (gy_L R ko vo)) 8 g → post (nI R, fl, ce, nI g'.1, ko, vo, g'.2.1, g'.2.2.1, g'.2.2.2, sB, bf)) :
    wpY_tell post (nI R, fl, ce, nI g.1, ko, vo, g.2.1, g.2.2.1, g.2.2.2, sB, bf) :=
  ⟨9, gy_tell2 hR hx h1 h2 room K 8 0 9 g rfl (by omega) rfl⟩
end gyt
end
section
/-! what the two states have in common -/
def gz_F (n : Nat) (T : gt_T) (fr : Int32) (G : Nat → gx_C) (F : List Nat) (R : Nat) (ko vo : Nat → Int32) : Prop :=
  n ≤ 24 ∧ gx_inv fr G T F ∧ R ≤ 40 ∧ gr_ok (gy_L R ko vo) ∧ List.Perm (gt_ft (gt_il T)) ((gy_L R ko vo).map gr_en)
def i_Rel (k : Nat) (u : SX) (v : SY) : Prop :=
  ∃ (fl ce sb sa fr dp : Int32) (be af eS eK eF pa ko vo sB bf : Nat → Int32) (n R : Nat) (T : gt_T) (G : Nat → gx_C) (F : List Nat), gz_F n T fr G F R ko vo ∧
    u = gx_s (fl, ce, sb, sa, nI n, be, af, eS, eK, eF) (nI (gt_rp T)) fr dp G pa ∧ v = (nI R, fl, ce, nI n, ko, vo, eS, eK, eF, sB, bf)
theorem gz_el {P : SX → SY → Prop} {k : Nat} {u : SX} {v : SY} (I : i_Rel k u v)
    (h : ∀ (fl ce sb sa fr dp : Int32) (be af eS eK eF pa ko vo sB bf : Nat → Int32) (n R : Nat) (T : gt_T) (G : Nat → gx_C) (F : List Nat), gz_F n T fr G F R ko vo →
      P (gx_s (fl, ce, sb, sa, nI n, be, af, eS, eK, eF) (nI (gt_rp T)) fr dp G pa) (nI R, fl, ce, nI n, ko, vo, eS, eK, eF, sB, bf)) : P u v := by
  obtain ⟨fl, ce, sb, sa, fr, dp, be, af, eS, eK, eF, pa, ko, vo, sB, bf, n, R, T, G, F, hF, rfl, rfl⟩ := I
  exact h fl ce sb sa fr dp be af eS eK eF pa ko vo sB bf n R T G F hF
theorem gz_in {k : Nat} {fl ce sb sa fr dp : Int32} {be af eS eK eF pa ko vo sB bf : Nat → Int32} {n R : Nat} {T : gt_T} {G : Nat → gx_C} {F : List Nat} (h : gz_F n T fr G F R ko vo) :
    i_Rel k (gx_s (fl, ce, sb, sa, nI n, be, af, eS, eK, eF) (nI (gt_rp T)) fr dp G pa) (nI R, fl, ce, nI n, ko, vo, eS, eK, eF, sB, bf) :=
  ⟨fl, ce, sb, sa, fr, dp, be, af, eS, eK, eF, pa, ko, vo, sB, bf, n, R, T, G, F, h, rfl, rfl⟩
section gz
variable {n R : Nat} {T : gt_T} {fr : Int32} {G : Nat → gx_C} {F : List Nat} {ko vo : Nat → Int32}
theorem gz_tr (h : gz_F n T fr G F R ko vo) : gx_tr G T := gx_inv_tr h.2.1
theorem gz_rl (h : gz_F n T fr G F R ko vo) : gr_rl (gt_il T) (gy_L R ko vo) := ⟨h.2.1.2.2.2.1, fun x hx => (h.2.1.2.2.2.2.1 x hx).2, h.2.2.2.1, h.2.2.2.2⟩
theorem gz_ex {E : List gt_E} {L : List gr_R} (h : gr_rl E L) : ∀ k, k < 8 → gy_ex L (nI k) := by
  intro k hk j hj
  obtain ⟨v, _, hv⟩ := gr_x_rank h hk hj
  exact ⟨v, hv⟩
theorem gz_rows (h : gz_F n T fr G F R ko vo) : (G (gt_rp T)).2.2.2.2.2.1 = nI R := by
  rw [gx_r h.2.1.1 h.2.1.2.1, gr_totL (gz_rl h), gy_L_len]
theorem gz_tot (h : gz_F n T fr G F R ko vo) : gt_tot (gt_il T) = R := by
  rw [gr_totL (gz_rl h), gy_L_len]
end gz
/-- a key that no row has -/
theorem gz_nokey {L : List gr_R} (h : gr_ok L) {x : Int32} (hx : ∀ k, k < 8 → ¬ x = nI k) : ∀ r ∈ L, ¬ r.1 = x := by
  intro r hr e
  obtain ⟨k, hk, e2⟩ := h r hr
  exact hx k hk (by rw [← e, e2])
theorem gz_key (x : Int32) : (x < 0 ∧ ∀ k, k < 8 → ¬ x = nI k) ∨ (¬ x < 0 ∧ 7 < x ∧ ∀ k, k < 8 → ¬ x = nI k) ∨ (∃ k, k < 8 ∧ x = nI k ∧ ¬ x < 0 ∧ ¬ 7 < x) := by
  by_cases h0 : x < 0
  · refine Or.inl ⟨h0, fun k hk e => ?_⟩
    rw [e] at h0
    exact nI_pos (by omega) h0
  · obtain ⟨j, hj, rfl⟩ := nI_of h0
    by_cases h7 : j < 8
    · exact Or.inr (Or.inr ⟨j, h7, rfl, h0, nI_nlt (b := j) (a := 7) (by omega) (by omega)⟩)
    · refine Or.inr (Or.inl ⟨h0, nI_lt (a := 7) (by omega) hj, fun k hk e => ?_⟩)
      have := ga_im e hj (by omega)
      omega
/-! one group has changed -/
theorem gz_one {fl ce : Int32} {L M : List gr_R} {c : Nat} (hc : c < 8) (h : ∀ j : Int32, ¬ j = nI c → List.Perm (L.filter (fun r => decide (r.1 = j))) (M.filter (fun r => decide (r.1 = j)))) (g : gl_G) :
    gl_tell (fun k => gr_sh fl ce (nI k) L) (fun k => gr_sh fl ce (nI k) M) (fun k => gr_nw (nI k) L) (fun k => gr_nw (nI k) M) 8 g = gl_lg (gr_sh fl ce (nI c) L) (gr_sh fl ce (nI c) M) (gr_nw (nI c) L) (gr_nw (nI c) M) (nI c) g ∧
    (g.1 ≤ 22 → ∀ k, k ≤ 8 → (gl_tell (fun k => gr_sh fl ce (nI k) L) (fun k => gr_sh fl ce (nI k) M) (fun k => gr_nw (nI k) L) (fun k => gr_nw (nI k) M) k g).1 ≤ 24) := by
  have H : ∀ k, k < 8 → k ≠ c → (fun k => gr_sh fl ce (nI k) L) k = (fun k => gr_sh fl ce (nI k) M) k ∧ ∀ f, f < 6 → (fun k => gr_nw (nI k) L) k f = (fun k => gr_nw (nI k) M) k f := by
    intro k hk hkc
    have hp := h (nI k) (fun e => hkc (ga_im e (by omega) (by omega)))
    exact ⟨gr_c_sh hp fl ce, fun f _ => gr_c_nw hp f⟩
  constructor
  · rw [gl_tell_one H 8 g (by omega), if_neg (by omega)]
  · intro hg k hk
    rw [gl_tell_one H k g hk]
    by_cases d : k ≤ c
    · rw [if_pos d]; omega
    · rw [if_neg d]
      have := (gl_lg_1 (gr_sh fl ce (nI c) L) (gr_sh fl ce (nI c) M) (nI c) (gr_nw (nI c) L) (gr_nw (nI c) M) g).2
      omega
theorem gz_fl_add {L : List gr_R} {r : gr_R} {j : Int32} (h : ¬ r.1 = j) : List.Perm (L.filter (fun r => decide (r.1 = j))) ((L ++ [r]).filter (fun r => decide (r.1 = j))) := by
  rw [List.filter_append, List.filter_cons_of_neg (by simp [h])]
  simp
theorem gz_fl_del {L M : List gr_R} {r : gr_R} {j : Int32} (h : ¬ r.1 = j) (p : List.Perm L (r :: M)) : List.Perm (L.filter (fun r => decide (r.1 = j))) (M.filter (fun r => decide (r.1 = j))) := by
  have q := p.filter (fun r => decide (r.1 = j))
  rw [List.filter_cons_of_neg (by simp [h])] at q
  exact q
/-! the reference's list after an insert and a drop -/
theorem gy_L_ins {R : Nat} {ko vo : Nat → Int32} (k v : Int32) : gy_L (R + 1) (upd ko R k) (upd vo R v) = gy_L R ko vo ++ [(k, v)] := by
  rw [gy_L_s, pk_us, pk_us, gy_L_cg (ko' := ko) (vo' := vo) (fun i hi => ⟨pk_un (by omega), pk_un (by omega)⟩)]
theorem gy_L_drop {ko vo : Nat → Int32} : ∀ (S i : Nat), i < S + 1 → (ko' vo' : Nat → Int32) → ko' = upd ko i (ko S) → vo' = upd vo i (vo S) → List.Perm (gy_L (S + 1) ko vo) ((ko i, vo i) :: gy_L S ko' vo') := by
  intro S i hi ko' vo' e1 e2
  rw [gy_L_s]
  refine (List.perm_append_singleton _ _).trans ?_
  by_cases c : i = S
  · subst c
    rw [gy_L_cg (ko := ko') (vo := vo') (ko' := ko) (vo' := vo) (R := i) (fun j hj => ⟨by rw [e1, pk_un (by omega)], by rw [e2, pk_un (by omega)]⟩)]
  · have hi' : i < S := by omega
    have H : ∀ D, i < D → List.Perm ((ko S, vo S) :: gy_L D ko vo) ((ko i, vo i) :: gy_L D ko' vo') := by
      intro D
      induction D with
      | zero => intro h; omega
      | succ D ih =>
        intro h
        rw [gy_L_s, gy_L_s]
        by_cases d : i = D
        · subst d
          rw [gy_L_cg (ko := ko') (vo := vo') (ko' := ko) (vo' := vo) (R := i) (fun j hj => ⟨by rw [e1, pk_un (by omega)], by rw [e2, pk_un (by omega)]⟩), e1, e2, pk_us, pk_us]
          refine List.Perm.trans (List.Perm.cons _ (List.perm_append_singleton _ _)) (List.Perm.trans (List.Perm.swap _ _ _) (List.Perm.cons _ (List.perm_append_singleton _ _).symm))
        · have h1 := ih (by omega)
          have k1 : ko' D = ko D := by rw [e1, pk_un (by omega)]
          have k2 : vo' D = vo D := by rw [e2, pk_un (by omega)]
          rw [k1, k2]
          exact h1.append_right [(ko D, vo D)]
    exact H S hi'
/-! the start -/
theorem gz_fl0 {G : Nat → gx_C} (h : ∀ j, 1 ≤ j → j < 41 → (G j).2.2.1 = if j = 40 then 0 else nI (j + 1)) : ∀ d i : Nat, 1 ≤ i → i + d = 41 → gx_fl G (List.range' i d) := by
  intro d
  induction d with
  | zero => intro i _ _; trivial
  | succ d ih =>
    intro i hi hd
    rw [List.range'_succ]
    refine ⟨?_, ih (i + 1) (by omega) (by omega)⟩
    rw [h i hi (by omega)]
    cases d with
    | zero => rw [if_pos (by omega)]; rfl
    | succ d => rw [if_neg (by omega), List.range'_succ]; rfl
theorem gz_init {post : SX → Prop} (K : ∀ lf : Nat → Int32, lf 0 = 0 → (∀ j, 1 ≤ j → j < 41 → lf j = if j = 40 then 0 else nI (j + 1)) → post (0, 1, 0, 1, 40, 0, 0, 0, (fun _ => 0), (fun _ => 0), lf, (fun _ => 0), (fun _ => 0), (fun _ => 0), (fun _ => 0), (fun _ => 0), (fun _ => 0), (fun _ => 0), (fun _ => 0), (fun _ => 0), (fun _ => 0), (fun _ => 0))) :
    ∀ (d i n : Nat) (lf : Nat → Int32), 1 ≤ i → i + d = 41 → d < n → lf 0 = 0 → (∀ j, 1 ≤ j → j < i → lf j = if j = 40 then 0 else nI (j + 1)) →
      wX_init_130 post 0 0 0 1 40 0 0 0 n (nI i) (fun _ => 0) (fun _ => 0) lf (fun _ => 0) (fun _ => 0) (fun _ => 0) (fun _ => 0) (fun _ => 0) (fun _ => 0) (fun _ => 0) (fun _ => 0) (fun _ => 0) (fun _ => 0) (fun _ => 0) := by
  intro d
  induction d with
  | zero =>
    intro i n lf h1 hi hn h0 hl
    obtain ⟨n, rfl⟩ : ∃ a, n = a + 1 := ⟨n - 1, by omega⟩
    have e : i = 41 := by omega
    subst e
    exact br_t (by decide) (K lf h0 hl)
  | succ d ih =>
    intro i n lf h1 hi hn h0 hl
    obtain ⟨n, rfl⟩ : ∃ a, n = a + 1 := ⟨n - 1, by omega⟩
    have v : vp_in (nI i) 41 := ga_in (by omega)
    refine br_f (nI_ge (b := 41) (by omega) (by decide)) ?_
    rw [ga_cl (by omega)]
    refine pk_eq i 40 (fun c => ⟨v, nm_e (nm_r (nI_1 i) (ih (i + 1) n _ (by omega) (by omega) (by omega) ?_ (fun j h2 h3 => ?_)))⟩) (fun c => ⟨v, nm_e (nm_r (nI_1 i) (ih (i + 1) n _ (by omega) (by omega) (by omega) ?_ (fun j h2 h3 => ?_)))⟩) rfl rfl (by omega) (by omega)
    · rw [pk_un (by omega)]; exact h0
    · by_cases e : j = i
      · rw [e, pk_us, if_pos c]
      · rw [pk_un e]; exact hl j h2 (by omega)
    · rw [pk_un (by omega)]; exact h0
    · by_cases e : j = i
      · rw [e, pk_us, if_neg c, nI_1]
      · rw [pk_un e]; exact hl j h2 (by omega)
theorem gz_vc0 : wpX_init (fun u => wpY_init (fun v => i_Rel 0 u v)) := by
  refine ⟨41, gz_init ?_ 40 1 41 (fun _ => 0) (by omega) rfl (by omega) rfl (fun j h2 h3 => absurd h3 (by omega))⟩
  intro lf h0 hl
  have hF : gz_F 0 .leaf 1 (fun i => (0, 0, lf i, 0, 0, 0, 0, 0)) (List.range' 1 40) 0 (fun _ => 0) (fun _ => 0) := by
    refine ⟨by omega, ⟨by show ((0, 0, lf 0, 0, 0, 0, 0, 0) : gx_C) = gx_z; rw [h0]; rfl, trivial, trivial, List.Pairwise.nil, fun x hx => absurd hx List.not_mem_nil, by show 0 ≤ 40; omega, List.Pairwise.nil, rfl, gz_fl0 hl 40 1 (by omega) rfl, List.nodup_range', fun f hf => ⟨?_, fun x hx => absurd hx List.not_mem_nil⟩, by rw [List.length_range']; rfl⟩, by omega, fun r hr => absurd hr List.not_mem_nil, List.Perm.nil⟩
    have := List.mem_range'_1.mp hf
    omega
  exact gz_in (k := 0) (fl := 1) (ce := 40) (sb := 0) (sa := 0) (dp := 0) (be := fun _ => 0) (af := fun _ => 0) (eS := fun _ => 0) (eK := fun _ => 0) (eF := fun _ => 0) (pa := fun _ => 0) (sB := fun _ => 0) (bf := fun _ => 0) hF
end
section
/-! the calls that only read, and take -/
section gzs
variable {k : Nat} {u : SX} {v : SY}
theorem gz_pending (I : i_Rel k u v) : wpX_pending (fun r => wpY_pending (fun r' => r' = r ∧ i_Rel (k + 3) u v) v) u := by
  have I' : i_Rel (k + 3) u v := I
  refine gz_el (P := fun u v => i_Rel (k + 3) u v → wpX_pending (fun r => wpY_pending (fun r' => r' = r ∧ i_Rel (k + 3) u v) v) u) I ?_ I'
  intro fl ce sb sa fr dp be af eS eK eF pa ko vo sB bf n R T G F hF I
  exact ⟨rfl, I⟩
theorem gz_sort (I : i_Rel k u v) (v1 : Int32) : wpX_sort (fun r => wpY_sort (fun r' => r' = r ∧ i_Rel (k + 3) u v) v v1) u v1 := by
  have I' : i_Rel (k + 3) u v := I
  refine gz_el (P := fun u v => i_Rel (k + 3) u v → wpX_sort (fun r => wpY_sort (fun r' => r' = r ∧ i_Rel (k + 3) u v) v v1) u v1) I ?_ I'
  intro fl ce sb sa fr dp be af eS eK eF pa ko vo sB bf n R T G F hF I
  unfold wpX_sort wpX_isEntry
  dsimp only
  have hn := hF.1
  by_cases h0 : v1 < 0
  · exact br_t h0 (br_t rfl (br_t h0 ⟨rfl, I⟩))
  · obtain ⟨j, hj, rfl⟩ := nI_of h0
    by_cases h1 : n ≤ j
    · exact br_f h0 (br_t (nI_le h1 hj) (br_t rfl (br_f h0 (br_f (nI_nlt h1 hj) ⟨rfl, I⟩))))
    · have w : vp_in (nI j) 24 := vp_in_nI (by omega) (by omega)
      exact br_f h0 (br_f (nI_ge (by omega) (by omega)) (br_f (by decide) ⟨w, br_f h0 (br_t (nI_lt (by omega) (by omega)) ⟨w, rfl, I⟩)⟩))
theorem gz_keyc (I : i_Rel k u v) (v1 : Int32) : wpX_key (fun r => wpY_key (fun r' => r' = r ∧ i_Rel (k + 3) u v) v v1) u v1 := by
  have I' : i_Rel (k + 3) u v := I
  refine gz_el (P := fun u v => i_Rel (k + 3) u v → wpX_key (fun r => wpY_key (fun r' => r' = r ∧ i_Rel (k + 3) u v) v v1) u v1) I ?_ I'
  intro fl ce sb sa fr dp be af eS eK eF pa ko vo sB bf n R T G F hF I
  unfold wpX_key wpX_isEntry
  dsimp only
  have hn := hF.1
  by_cases h0 : v1 < 0
  · exact br_t h0 (br_t rfl (br_t h0 ⟨rfl, I⟩))
  · obtain ⟨j, hj, rfl⟩ := nI_of h0
    by_cases h1 : n ≤ j
    · exact br_f h0 (br_t (nI_le h1 hj) (br_t rfl (br_f h0 (br_f (nI_nlt h1 hj) ⟨rfl, I⟩))))
    · have w : vp_in (nI j) 24 := vp_in_nI (by omega) (by omega)
      exact br_f h0 (br_f (nI_ge (by omega) (by omega)) (br_f (by decide) ⟨w, br_f h0 (br_t (nI_lt (by omega) (by omega)) ⟨w, rfl, I⟩)⟩))
theorem gz_5 {x : Int32} (h : ¬ x < 0) (h5 : x ≤ 5) : ∃ f, f < 6 ∧ x = nI f := by
  obtain ⟨f, hf, e⟩ := nI_of2 (M := 5) (n := 5) (by decide) h h5
  exact ⟨f, by omega, e⟩
theorem gz_field (I : i_Rel k u v) (v1 v2 : Int32) : wpX_field (fun r => wpY_field (fun r' => r' = r ∧ i_Rel (k + 3) u v) v v1 v2) u v1 v2 := by
  have I' : i_Rel (k + 3) u v := I
  refine gz_el (P := fun u v => i_Rel (k + 3) u v → wpX_field (fun r => wpY_field (fun r' => r' = r ∧ i_Rel (k + 3) u v) v v1 v2) u v1 v2) I ?_ I'
  intro fl ce sb sa fr dp be af eS eK eF pa ko vo sB bf n R T G F hF I
  unfold wpX_field wpX_isEntry
  dsimp only
  have hn := hF.1
  by_cases h0 : v1 < 0
  · exact br_t h0 (br_t rfl (br_t h0 ⟨rfl, I⟩))
  · obtain ⟨j, hj, rfl⟩ := nI_of h0
    by_cases h1 : n ≤ j
    · exact br_f h0 (br_t (nI_le h1 hj) (br_t rfl (br_f h0 (br_t (nI_le h1 hj) ⟨rfl, I⟩))))
    · have hg : ¬ nI n ≤ nI j := nI_ge (by omega) (by omega)
      refine br_f h0 (br_f hg (br_f (by decide) ?_))
      by_cases f0 : v2 < 0
      · exact br_t f0 (br_f h0 (br_f hg (br_t f0 ⟨rfl, I⟩)))
      · by_cases f5 : v2 ≤ 5
        · obtain ⟨f, hf, rfl⟩ := gz_5 f0 f5
          have w : vp_in (6 * nI j + nI f) 144 := by rw [ga_6m, nI_add]; exact vp_in_nI (by omega) (by omega)
          exact br_f f0 (br_f (Int32.not_lt.mpr f5) ⟨w, br_f h0 (br_f hg (br_f f0 (br_t f5 ⟨w, rfl, I⟩)))⟩)
        · exact br_f f0 (br_t (Int32.not_le.mp f5) (br_f h0 (br_f hg (br_f f0 (br_f f5 ⟨rfl, I⟩)))))
theorem gz_now (I : i_Rel k u v) (v1 v2 : Int32) : wpX_now (fun r u' => wpY_now (fun r' => r' = r ∧ i_Rel (k + 3) u' v) v v1 v2) u v1 v2 := by
  refine gz_el (P := fun u v => wpX_now (fun r u' => wpY_now (fun r' => r' = r ∧ i_Rel (k + 3) u' v) v v1 v2) u v1 v2) I ?_
  intro fl ce sb sa fr dp be af eS eK eF pa ko vo sB bf n R T G F hF
  have hR := hF.2.2.1
  have rl := gz_rl hF
  have no : (∀ j, j < 8 → ¬ v1 = nI j) → gr_cnt v1 (gy_L R ko vo) = 0 := by
    intro h
    refine List.countP_eq_zero.mpr (fun r hr => ?_)
    have := gz_nokey hF.2.2.2.1 h r hr
    simp [this]
  unfold wpX_now
  dsimp only
  rcases gz_key v1 with ⟨h0, hn⟩ | ⟨h0, h7, hn⟩ | ⟨j, hj, rfl, h0, h7⟩
  · exact br_t h0 (gy_now_0 hR (no hn) ⟨rfl, gz_in hF⟩)
  · exact br_f h0 (br_t h7 (gy_now_0 hR (no hn) ⟨rfl, gz_in hF⟩))
  · refine br_f h0 (br_f h7 ?_)
    by_cases f0 : v2 < 0
    · refine br_t f0 (gy_now_out hR (fun f hf e => ?_) ⟨rfl, gz_in hF⟩)
      rw [e] at f0
      exact nI_pos (by omega) f0
    · by_cases f5 : v2 ≤ 5
      · obtain ⟨f, hf, rfl⟩ := gz_5 f0 f5
        refine br_f f0 (br_t f5 ?_)
        refine gx_describe (fl := fl) (ce := ce) (sb := sb) (sa := sa) (en := nI n) (be := be) (af := af) (eS := eS) (eK := eK) (eF := eF) (fr := fr) (dp := dp) (G := G) (pa := pa) (gz_tr hF) rl hj ?_
        intro af' haf
        dsimp only
        refine ⟨vp_in_nI hf (by omega), gy_now hR (gz_ex rl j hj) f hf ⟨?_, gz_in hF⟩⟩
        rw [nI_clamp (by omega), haf f hf]
      · refine br_f f0 (br_f f5 (gy_now_out hR (fun f hf e => ?_) ⟨rfl, gz_in hF⟩))
        rw [e] at f5
        exact f5 (nI_le (b := 5) (by omega) (by decide))
theorem gz_below (I : i_Rel k u v) (v1 v2 : Int32) : wpX_below (fun r => wpY_below (fun r' => r' = r ∧ i_Rel (k + 3) u v) v v1 v2) u v1 v2 := by
  have I' : i_Rel (k + 3) u v := I
  refine gz_el (P := fun u v => i_Rel (k + 3) u v → wpX_below (fun r => wpY_below (fun r' => r' = r ∧ i_Rel (k + 3) u v) v v1 v2) u v1 v2) I ?_ I'
  intro fl ce sb sa fr dp be af eS eK eF pa ko vo sB bf n R T G F hF I
  have hR := hF.2.2.1
  have rl := gz_rl hF
  have tr := gz_tr hF
  have no : (∀ j, j < 8 → ¬ v1 = nI j) → gr_low v1 v2 (gy_L R ko vo) = 0 := by
    intro h
    refine List.countP_eq_zero.mpr (fun r hr => ?_)
    have := gz_nokey hF.2.2.2.1 h r hr
    simp [this]
  unfold wpX_below wpX_placeOf
  dsimp only
  rcases gz_key v1 with ⟨h0, hn⟩ | ⟨h0, h7, hn⟩ | ⟨j, hj, rfl, h0, h7⟩
  · exact br_t h0 (gy_below hR ⟨by rw [no hn]; rfl, I⟩)
  · exact br_f h0 (br_f (Int32.not_le.mpr h7) (gy_below hR ⟨by rw [no hn]; rfl, I⟩))
  · refine br_f h0 (br_t (Int32.not_lt.mp h7) ?_)
    rw [ga_place hj, ga_place hj, ga_pc0]
    have hb := ga_pclt hj v2
    refine gx_rowsBelow (W := (fl, ce, sb, sa, nI n, be, af, eS, eK, eF)) (fr := fr) (dp := dp) (G := G) (pa := pa) tr (by omega) ?_
    refine gx_rowsBelow (W := (fl, ce, sb, sa, nI n, be, af, eS, eK, eF)) (fr := fr) (dp := dp) (G := G) (pa := pa) tr (by omega) ?_
    refine gy_below hR ⟨?_, I⟩
    have e := gr_x_low rl hj v2
    rw [pk_sub (by omega)]
    exact congrArg nI (by omega)
/-! take: all is moved down by c entries -/
def gk_t (A : Nat → Int32) (c i : Nat) : Nat → Int32 := fun j => if j < i then A (j + c) else A j
theorem gk_t_0 (A : Nat → Int32) (c : Nat) : gk_t A c 0 = A := by
  funext j
  exact if_neg (Nat.not_lt_zero _)
theorem gk_t_r {A : Nat → Int32} {c i j : Nat} (h : i ≤ j) : gk_t A c i j = A j := if_neg (by omega)
theorem gk_t_s (A : Nat → Int32) (c i : Nat) : upd (gk_t A c i) i (A (i + c)) = gk_t A c (i + 1) := by
  funext j
  by_cases e : j = i
  · rw [e, pk_us]
    unfold gk_t
    rw [if_pos (by omega)]
  · rw [pk_un e]
    unfold gk_t
    by_cases d : j < i
    · rw [if_pos d, if_pos (by omega)]
    · rw [if_neg d, if_neg (by omega)]
variable {fl ce sb sa fr dp rt : Int32} {be af eS eK eF pa : Nat → Int32} {G : Nat → gx_C} {n c : Nat}
theorem gk_x66 {post : Int32 → SX → Prop} {J27 : Int32 → (Nat → Int64) → (Nat → Int32) → (Nat → Int32) → (Nat → Int32) → (Nat → Int32) → (Nat → Int32) → (Nat → Int32) → (Nat → Int32) → (Nat → Int32) → (Nat → Int32) → (Nat → Int32) → (Nat → Int32) → (Nat → Int32) → (Nat → Int32) → Prop} {i : Nat} {eS eK : Nat → Int32} (hi : i + c < 24)
    (K : J27 (nI (i + c + 1)) (fun qq => (G qq).1) (fun qq => (G qq).2.1) (fun qq => (G qq).2.2.1) (fun qq => (G qq).2.2.2.1) (fun qq => (G qq).2.2.2.2.1) (fun qq => (G qq).2.2.2.2.2.1) (fun qq => (G qq).2.2.2.2.2.2.1) (fun qq => (G qq).2.2.2.2.2.2.2) pa be af eS eK (gk_t eF (6 * c) (6 * (i + 1)))) :
    ∀ d f m : Nat, f + d = 6 → d < m → wX_take_66 post J27 (nI c) (nI (i + c)) rt fr dp fl ce sb sa (nI n) m (nI f) (fun qq => (G qq).1) (fun qq => (G qq).2.1) (fun qq => (G qq).2.2.1) (fun qq => (G qq).2.2.2.1) (fun qq => (G qq).2.2.2.2.1) (fun qq => (G qq).2.2.2.2.2.1) (fun qq => (G qq).2.2.2.2.2.2.1) (fun qq => (G qq).2.2.2.2.2.2.2) pa be af eS eK (gk_t eF (6 * c) (6 * i + f)) := by
  intro d
  induction d with
  | zero =>
    intro f m hf hm
    obtain ⟨m, rfl⟩ : ∃ a, m = a + 1 := ⟨m - 1, by omega⟩
    have e : f = 6 := by omega
    subst e
    exact br_t (by decide) (nm_r (nI_1 _) K)
  | succ d ih =>
    intro f m hf hm
    obtain ⟨m, rfl⟩ : ∃ a, m = a + 1 := ⟨m - 1, by omega⟩
    have e1 : 6 * nI (i + c) + nI f = nI (6 * (i + c) + f) := by rw [ga_6m, nI_add]
    have e2 : 6 * (nI (i + c) - nI c) + nI f = nI (6 * i + f) := by
      rw [pk_sub (by omega), ga_6m, nI_add]
      exact congrArg nI (by omega)
    refine br_f (ga_6 (by omega)) ?_
    rw [e1, e2, nI_clamp (n := 6 * (i + c) + f) (by omega), nI_clamp (n := 6 * i + f) (by omega)]
    refine ⟨vp_in_nI (by omega) (by omega), vp_in_nI (by omega) (by omega), nm_r (e' := gk_t eF (6 * c) (6 * i + (f + 1))) ?_ (nm_r (nI_1 f) (ih (f + 1) m (by omega) (by omega)))⟩
    rw [gk_t_r (by omega), show 6 * (i + c) + f = 6 * i + f + 6 * c from by omega]
    exact gk_t_s eF (6 * c) (6 * i + f)
theorem gk_x27 {post : Int32 → SX → Prop} (hc : c ≤ n) (hn : n ≤ 24) (K : post (nI c) (gx_s (fl, ce, sb, sa, nI (n - c), be, af, gk_t eS c (n - c), gk_t eK c (n - c), gk_t eF (6 * c) (6 * (n - c))) rt fr dp G pa)) :
    ∀ d i m : Nat, i + c + d = n → d < m → wX_take_27 post (nI c) rt fr dp fl ce sb sa (nI n) m (nI (i + c)) (fun qq => (G qq).1) (fun qq => (G qq).2.1) (fun qq => (G qq).2.2.1) (fun qq => (G qq).2.2.2.1) (fun qq => (G qq).2.2.2.2.1) (fun qq => (G qq).2.2.2.2.2.1) (fun qq => (G qq).2.2.2.2.2.2.1) (fun qq => (G qq).2.2.2.2.2.2.2) pa be af (gk_t eS c i) (gk_t eK c i) (gk_t eF (6 * c) (6 * i)) := by
  intro d
  induction d with
  | zero =>
    intro i m hi hm
    obtain ⟨m, rfl⟩ : ∃ a, m = a + 1 := ⟨m - 1, by omega⟩
    have e : n - c = i := by omega
    rw [e] at K
    refine br_t (nI_le (by omega) (by omega)) (nm_r (e' := nI i) ?_ K)
    rw [pk_sub hc, e]
  | succ d ih =>
    intro i m hi hm
    obtain ⟨m, rfl⟩ : ∃ a, m = a + 1 := ⟨m - 1, by omega⟩
    have e2 : nI (i + c) - nI c = nI i := by
      rw [pk_sub (by omega)]
      exact congrArg nI (by omega)
    have w1 : vp_in (nI (i + c)) 24 := vp_in_nI (by omega) (by omega)
    have w2 : vp_in (nI i) 24 := vp_in_nI (by omega) (by omega)
    refine br_f (nI_ge (by omega) (by omega)) ?_
    rw [e2, nI_clamp (n := i + c) (by omega), nI_clamp (n := i) (by omega), gk_t_r (A := eS) (by omega), gk_t_r (A := eK) (by omega), gk_t_s, gk_t_s]
    refine ⟨w1, w2, nm_e ⟨w1, w2, nm_e ⟨7, ?_⟩⟩⟩
    refine gk_x66 (eF := eF) (by omega) ?_ 6 0 7 rfl (by omega)
    rw [show i + c + 1 = i + 1 + c from by omega]
    exact ih (i + 1) m (by omega) (by omega)
end gzs
section gzy
variable {fl ce : Int32} {ko vo eS eK eF sB bf : Nat → Int32} {R n c : Nat}
theorem gk_y76 {post : Int32 → SY → Prop} {J37 : Int32 → (Nat → Int32) → (Nat → Int32) → (Nat → Int32) → (Nat → Int32) → (Nat → Int32) → (Nat → Int32) → (Nat → Int32) → Prop} {i : Nat} {en : Int32} {eS eK : Nat → Int32} (hi : i + c < 24) (K : J37 (nI (i + 1)) ko vo eS eK (gk_t eF (6 * c) (6 * (i + 1))) sB bf) :
    ∀ d f m : Nat, f + d = 6 → d < m → wY_take_76 post J37 (nI c) (nI i) (nI R) fl ce en m (nI f) ko vo eS eK (gk_t eF (6 * c) (6 * i + f)) sB bf := by
  intro d
  induction d with
  | zero =>
    intro f m hf hm
    obtain ⟨m, rfl⟩ : ∃ a, m = a + 1 := ⟨m - 1, by omega⟩
    have e : f = 6 := by omega
    subst e
    exact br_t (by decide) (nm_r (nI_1 _) K)
  | succ d ih =>
    intro f m hf hm
    obtain ⟨m, rfl⟩ : ∃ a, m = a + 1 := ⟨m - 1, by omega⟩
    have e1 : 6 * (nI i + nI c) + nI f = nI (6 * (i + c) + f) := by rw [nI_add, ga_6m, nI_add]
    have e2 : 6 * nI i + nI f = nI (6 * i + f) := by rw [ga_6m, nI_add]
    refine br_f (ga_6 (by omega)) ?_
    rw [e1, e2, nI_clamp (n := 6 * (i + c) + f) (by omega), nI_clamp (n := 6 * i + f) (by omega)]
    refine ⟨vp_in_nI (by omega) (by omega), vp_in_nI (by omega) (by omega), nm_r (e' := gk_t eF (6 * c) (6 * i + (f + 1))) ?_ (nm_r (nI_1 f) (ih (f + 1) m (by omega) (by omega)))⟩
    rw [gk_t_r (by omega), show 6 * (i + c) + f = 6 * i + f + 6 * c from by omega]
    exact gk_t_s eF (6 * c) (6 * i + f)
theorem gk_y37 {post : Int32 → SY → Prop} (hc : c ≤ n) (hn : n ≤ 24) (K : post (nI c) (nI R, fl, ce, nI (n - c), ko, vo, gk_t eS c (n - c), gk_t eK c (n - c), gk_t eF (6 * c) (6 * (n - c)), sB, bf)) :
    ∀ d i m : Nat, i + d = n - c → d < m → wY_take_37 post (nI c) (nI R) fl ce (nI (n - c)) m (nI i) ko vo (gk_t eS c i) (gk_t eK c i) (gk_t eF (6 * c) (6 * i)) sB bf := by
  intro d
  induction d with
  | zero =>
    intro i m hi hm
    obtain ⟨m, rfl⟩ : ∃ a, m = a + 1 := ⟨m - 1, by omega⟩
    have e : n - c = i := by omega
    rw [e] at K ⊢
    exact br_t (nI_le (Nat.le_refl _) (by omega)) K
  | succ d ih =>
    intro i m hi hm
    obtain ⟨m, rfl⟩ : ∃ a, m = a + 1 := ⟨m - 1, by omega⟩
    have e2 : nI i + nI c = nI (i + c) := nI_add _ _
    have w1 : vp_in (nI (i + c)) 24 := vp_in_nI (by omega) (by omega)
    have w2 : vp_in (nI i) 24 := vp_in_nI (by omega) (by omega)
    refine br_f (nI_ge (by omega) (by omega)) ?_
    rw [e2, nI_clamp (n := i + c) (by omega), nI_clamp (n := i) (by omega), gk_t_r (A := eS) (by omega), gk_t_r (A := eK) (by omega), gk_t_s, gk_t_s]
    refine ⟨w1, w2, nm_e ⟨w1, w2, nm_e ⟨7, ?_⟩⟩⟩
    refine gk_y76 (eF := eF) (by omega) ?_ 6 0 7 rfl (by omega)
    exact ih (i + 1) m (by omega) (by omega)
theorem gk_y24 {post : Int32 → SY → Prop} (hc : c ≤ n) (hn : n ≤ 24) (K : post (nI c) (nI R, fl, ce, nI (n - c), ko, vo, gk_t eS c (n - c), gk_t eK c (n - c), gk_t eF (6 * c) (6 * (n - c)), sB, bf)) :
    wY_take_24 post (nI c) (nI R) fl ce (nI n) ko vo eS eK eF sB bf := by
  unfold wY_take_24
  refine nm_r (pk_sub hc) ⟨n - c + 1, ?_⟩
  have h := gk_y37 (post := post) (fl := fl) (ce := ce) (ko := ko) (vo := vo) (eS := eS) (eK := eK) (eF := eF) (sB := sB) (bf := bf) hc hn K (n - c) 0 (n - c + 1) (by omega) (by omega)
  rw [gk_t_0, gk_t_0, Nat.mul_zero, gk_t_0] at h
  exact h
end gzy
theorem gk_x {post : Int32 → SX → Prop} {fl ce sb sa fr dp rt : Int32} {be af eS eK eF pa : Nat → Int32} {G : Nat → gx_C} {n c : Nat} (hc : c ≤ n) (hn : n ≤ 24) (K : post (nI c) (gx_s (fl, ce, sb, sa, nI (n - c), be, af, gk_t eS c (n - c), gk_t eK c (n - c), gk_t eF (6 * c) (6 * (n - c))) rt fr dp G pa)) :
    ∃ m, wX_take_27 post (nI c) rt fr dp fl ce sb sa (nI n) m (nI c) (fun qq => (G qq).1) (fun qq => (G qq).2.1) (fun qq => (G qq).2.2.1) (fun qq => (G qq).2.2.2.1) (fun qq => (G qq).2.2.2.2.1) (fun qq => (G qq).2.2.2.2.2.1) (fun qq => (G qq).2.2.2.2.2.2.1) (fun qq => (G qq).2.2.2.2.2.2.2) pa be af eS eK eF := by
  have h := gk_x27 (post := post) (fl := fl) (ce := ce) (sb := sb) (sa := sa) (be := be) (af := af) (eS := eS) (eK := eK) (eF := eF) (rt := rt) (fr := fr) (dp := dp) (G := G) (pa := pa) hc hn K (n - c) 0 (n - c + 1) (by omega) (by omega)
  rw [gk_t_0, gk_t_0, Nat.mul_zero, gk_t_0, Nat.zero_add] at h
  exact ⟨_, h⟩
theorem gz_take {k : Nat} {u : SX} {v : SY} (I : i_Rel k u v) (v1 : Int32) : wpX_take (fun r u' => wpY_take (fun r' v' => r' = r ∧ i_Rel (k + 3) u' v') v v1) u v1 := by
  refine gz_el (P := fun u v => wpX_take (fun r u' => wpY_take (fun r' v' => r' = r ∧ i_Rel (k + 3) u' v') v v1) u v1) I ?_
  intro fl ce sb sa fr dp be af eS eK eF pa ko vo sB bf n R T G F hF
  have hn := hF.1
  have fin : ∀ c, c ≤ n → gz_F (n - c) T fr G F R ko vo := fun c hc => ⟨by omega, hF.2⟩
  unfold wpX_take
  dsimp only
  by_cases h0 : 0 ≤ v1
  · obtain ⟨j, hj, rfl⟩ := nI_of (Int32.not_lt.mpr h0)
    by_cases h1 : j ≤ n
    · refine br_t h0 (br_t (nI_le h1 (by omega)) (gk_x h1 hn ?_))
      unfold wpY_take
      dsimp only
      exact br_t h0 (br_t (nI_le h1 (by omega)) (gk_y24 h1 hn ⟨rfl, gz_in (fin j h1)⟩))
    · have h2 : ¬ nI j ≤ nI n := nI_ge (by omega) hj
      refine br_t h0 (br_f h2 (gk_x (Nat.le_refl n) hn ?_))
      unfold wpY_take
      dsimp only
      exact br_t h0 (br_f h2 (gk_y24 (Nat.le_refl n) hn ⟨rfl, gz_in (fin n (Nat.le_refl n))⟩))
  · refine br_f h0 (gk_x (Nat.zero_le n) hn ?_)
    unfold wpY_take
    dsimp only
    exact br_f h0 (gk_y24 (Nat.zero_le n) hn ⟨rfl, gz_in (fin 0 (Nat.zero_le n))⟩)
end
section
/-! insert -/
theorem gz_22 {n : Nat} (hn : n ≤ 24) : (n ≤ 22 ∧ nI n ≤ 22) ∨ (¬ n ≤ 22 ∧ ¬ nI n ≤ 22) := by
  by_cases h : n ≤ 22
  · exact Or.inl ⟨h, nI_le (b := 22) h (by decide)⟩
  · exact Or.inr ⟨h, nI_ge (a := 22) (by omega) (by omega)⟩
theorem gz_insert {k : Nat} {u : SX} {v : SY} (I : i_Rel k u v) (v1 v2 : Int32) : wpX_insert (fun r u' => wpY_insert (fun r' v' => r' = r ∧ i_Rel (k + 3) u' v') v v1 v2) u v1 v2 := by
  refine gz_el (P := fun u v => wpX_insert (fun r u' => wpY_insert (fun r' v' => r' = r ∧ i_Rel (k + 3) u' v') v v1 v2) u v1 v2) I ?_
  intro fl ce sb sa fr dp be af eS eK eF pa ko vo sB bf n R T G F hF
  have hR := hF.2.2.1
  have rl := gz_rl hF
  have tr := gz_tr hF
  have ok := hF.2.1.2.1
  unfold wpX_insert
  dsimp only
  rw [ga_cl (gx_rp41 ok), gz_rows hF]
  rcases gz_key v1 with ⟨h0, hn⟩ | ⟨h0, h7, hn⟩ | ⟨j, hj, rfl, h0, h7⟩
  · refine br_t h0 ?_
    exact br_t h0 ⟨rfl, gz_in hF⟩
  · refine br_f h0 (br_t h7 ?_)
    exact br_f h0 (br_t h7 ⟨rfl, gz_in hF⟩)
  · refine br_f h0 (br_f h7 ⟨ga_in (gx_rp41 ok), ?_⟩)
    by_cases hr : R = 40
    · subst hr
      refine br_t (by decide) ?_
      exact br_f h0 (br_f h7 (br_t rfl ⟨rfl, gz_in hF⟩))
    · have hr2 : ¬ (40 : Int32) ≤ nI R := nI_ge (b := 40) (by omega) (by decide)
      have hr3 : ¬ nI R = 40 := fun e => hr (ga_im (b := 40) e (by omega) (by omega))
      refine br_f hr2 ?_
      rcases gz_22 hF.1 with ⟨n22, e22⟩ | ⟨n22, e22⟩
      · refine br_t e22 ?_
        refine gx_note (fl := fl) (ce := ce) (sb := sb) (sa := sa) (en := nI n) (be := be) (af := af) (eS := eS) (eK := eK) (eF := eF) (fr := fr) (dp := dp) (G := G) (pa := pa) tr rl hj ?_
        intro be' af' hbe
        dsimp only
        unfold wpX_placeOf
        rw [ga_place hj]
        refine gx_add (W := (fl, ce, gr_sh fl ce (nI j) (gy_L R ko vo), gr_sh fl ce (nI j) (gy_L R ko vo), nI n, be', af', eS, eK, eF)) (fr := fr) (dp := dp) (G := G) (pa := pa) hF.2.1 (by rw [gz_tot hF]; omega) (ga_pclt hj v2) ?_
        intro T' G' fr' dp' F' pa' I' pm
        dsimp only
        obtain ⟨L', eL'⟩ : ∃ L', L' = gy_L (R + 1) (upd ko R (nI j)) (upd vo R v2) := ⟨_, rfl⟩
        have eL : L' = gy_L R ko vo ++ [(nI j, v2)] := by rw [eL', gy_L_ins]
        have okL : gr_ok L' := by
          rw [eL]
          intro r hr
          rcases List.mem_append.mp hr with a | a
          · exact hF.2.2.2.1 r a
          · rw [List.mem_singleton.mp a]; exact ⟨j, hj, rfl⟩
        have pmL : List.Perm (gt_ft (gt_il T')) (L'.map gr_en) := by
          rw [eL, List.map_append]
          refine pm.trans (List.Perm.trans ?_ (List.perm_append_singleton _ _).symm)
          rw [gr_en_n hj]
          exact hF.2.2.2.2.cons _
        have hF' : ∀ m, m ≤ 24 → gz_F m T' fr' G' F' (R + 1) (upd ko R (nI j)) (upd vo R v2) := by
          intro m hm
          exact ⟨hm, I', by omega, by rw [← eL']; exact okL, by rw [← eL']; exact pmL⟩
        have rl' := gz_rl (hF' 0 (by omega))
        rw [← eL'] at rl'
        have hone := gz_one (fl := fl) (ce := ce) (L := gy_L R ko vo) (M := L') hj (fun i hi => by rw [eL]; exact gz_fl_add (fun e => hi e.symm)) (n, eS, eK, eF)
        refine gx_log (fl := fl) (ce := ce) (sb := gr_sh fl ce (nI j) (gy_L R ko vo)) (sa := gr_sh fl ce (nI j) (gy_L R ko vo)) (be := be') (af := af') (eS := eS) (eK := eK) (eF := eF) (fr := fr') (dp := dp') (G := G') (pa := pa') (L := L') (gz_tr (hF' 0 (by omega))) rl' hj n22 hbe ?_
        intro af'' g hg
        dsimp only
        rw [ga_cl (gx_rp41 I'.2.1), gz_rows (hF' 0 (by omega))]
        refine ⟨ga_in (gx_rp41 I'.2.1), ?_⟩
        have g24 : g.1 ≤ 24 := by
          rw [hg, ← hone.1]
          exact hone.2 n22 8 (by omega)
        unfold wpY_insert
        dsimp only
        refine br_f h0 (br_f h7 (br_f hr3 (br_t e22 ?_)))
        refine gy_remember hR (gz_ex rl) ?_
        intro sB' bf' hs hb
        dsimp only
        have w : vp_in (nI R) 40 := vp_in_nI (by omega) (by omega)
        rw [nI_clamp (by omega)]
        refine ⟨w, nm_e ⟨w, nm_e (nm_r (nI_1 R) ?_)⟩⟩
        refine gy_tell (R := R + 1) (ko := upd ko R (nI j)) (vo := upd vo R v2) (g := (n, eS, eK, eF)) (sb := fun k => gr_sh fl ce (nI k) (gy_L R ko vo)) (b := fun k => gr_nw (nI k) (gy_L R ko vo)) (by omega) (by rw [← eL']; exact gz_ex rl') hs hb ?_ ?_
        · rw [← eL']; exact hone.2 n22
        · rw [← eL']
          intro g' hg'
          dsimp only
          have e : g' = g := by rw [hg', hone.1, hg]
          rw [e]
          exact ⟨rfl, gz_in (hF' g.1 g24)⟩
      · refine br_f e22 ?_
        exact br_f h0 (br_f h7 (br_f hr3 (br_f e22 ⟨rfl, gz_in hF⟩)))
/-! remove -/
section gzr
variable {R : Nat} {fl ce en : Int32} {ko vo so ks fd sB bf : Nat → Int32}
theorem gy_drop {post : SY → Prop} {S i : Nat} (hS : S < 40) (hi : i < S + 1) (K : post (nI S, fl, ce, en, upd ko i (ko S), upd vo i (vo S), so, ks, fd, sB, bf)) : wpY_drop post (nI (S + 1), fl, ce, en, ko, vo, so, ks, fd, sB, bf) (nI i) := by
  have w1 : vp_in (nI S) 40 := vp_in_nI hS (by omega)
  have w2 : vp_in (nI i) 40 := vp_in_nI (by omega) (by omega)
  unfold wpY_drop
  dsimp only
  rw [nI_clamp (n := i) (by omega)]
  refine nm_r (nI_pred S) ⟨w1, w2, ?_⟩
  rw [nI_clamp (n := S) (by omega)]
  exact nm_e ⟨w1, w2, nm_e K⟩
theorem gy_rm_none {post : Int32 → SY → Prop} {x y : Int32} (hR : R ≤ 40) (hz : ¬ (x, y) ∈ gy_L R ko vo) (K : post (-1) (nI R, fl, ce, en, ko, vo, so, ks, fd, sB, bf)) :
    ∀ d i n : Nat, i + d = R → d < n → wY_remove_13 post x y (nI R) fl ce en ko vo so ks fd sB bf n (nI i) := by
  intro d
  induction d with
  | zero =>
    intro i n hi hn
    obtain ⟨n, rfl⟩ : ∃ a, n = a + 1 := ⟨n - 1, by omega⟩
    have e : i = R := by omega
    subst e
    exact br_t (nI_le (Nat.le_refl _) (by omega)) K
  | succ d ih =>
    intro i n hi hn
    obtain ⟨n, rfl⟩ : ∃ a, n = a + 1 := ⟨n - 1, by omega⟩
    have h := ih (i + 1) n (by omega) (by omega)
    have w : vp_in (nI i) 40 := vp_in_nI (by omega) (by omega)
    refine br_f (nI_ge (by omega) (by omega)) ⟨w, ?_⟩
    rw [nI_clamp (by omega)]
    refine br_c (fun c => ⟨w, br_c (fun c2 => ?_) (fun c2 => nm_r (nI_1 i) h)⟩) (fun c => nm_r (nI_1 i) h)
    exact absurd (gy_L_mem.mpr ⟨i, by omega, by rw [c, c2]⟩) hz
theorem gy_rm_some {post : Int32 → SY → Prop} {x y : Int32} {S : Nat} {g : gl_G} (hS : S < 40) (hin : (x, y) ∈ gy_L (S + 1) ko vo) (hx : ∀ k, k < 8 → gy_ex (gy_L (S + 1) ko vo) (nI k))
    (hx' : ∀ i, i < S + 1 → ko i = x → vo i = y → ∀ k, k < 8 → gy_ex (gy_L S (upd ko i (ko S)) (upd vo i (vo S))) (nI k))
    (room : ∀ i, i < S + 1 → ko i = x → vo i = y → ∀ k, k ≤ 8 → (gl_tell (fun k => gr_sh fl ce (nI k) (gy_L (S + 1) ko vo)) (fun k => gr_sh fl ce (nI k) (gy_L S (upd ko i (ko S)) (upd vo i (vo S)))) (fun k => gr_nw (nI k) (gy_L (S + 1) ko vo)) (fun k => gr_nw (nI k) (gy_L S (upd ko i (ko S)) (upd vo i (vo S)))) k g).1 ≤ 24)
    (K : ∀ (i : Nat) (sB' bf' : Nat → Int32), i < S + 1 → ko i = x → vo i = y → ∀ g' : gl_G, g' = gl_tell (fun k => gr_sh fl ce (nI k) (gy_L (S + 1) ko vo)) (fun k => gr_sh fl ce (nI k) (gy_L S (upd ko i (ko S)) (upd vo i (vo S)))) (fun k => gr_nw (nI k) (gy_L (S + 1) ko vo)) (fun k => gr_nw (nI k) (gy_L S (upd ko i (ko S)) (upd vo i (vo S)))) 8 g →
      post (nI S) (nI S, fl, ce, nI g'.1, upd ko i (ko S), upd vo i (vo S), g'.2.1, g'.2.2.1, g'.2.2.2, sB', bf')) :
    ∀ d i n : Nat, i + d = S + 1 → d < n → ¬ (x, y) ∈ gy_L i ko vo → wY_remove_13 post x y (nI (S + 1)) fl ce (nI g.1) ko vo g.2.1 g.2.2.1 g.2.2.2 sB bf n (nI i) := by
  intro d
  induction d with
  | zero =>
    intro i n hi hn hz
    have e : i = S + 1 := by omega
    subst e
    exact absurd hin hz
  | succ d ih =>
    intro i n hi hn hz
    obtain ⟨n, rfl⟩ : ∃ a, n = a + 1 := ⟨n - 1, by omega⟩
    have w : vp_in (nI i) 40 := vp_in_nI (by omega) (by omega)
    have h : ¬ (ko i, vo i) = (x, y) → wY_remove_13 post x y (nI (S + 1)) fl ce (nI g.1) ko vo g.2.1 g.2.2.1 g.2.2.2 sB bf n (nI (i + 1)) := by
      intro q
      refine ih (i + 1) n (by omega) (by omega) ?_
      rw [gy_L_s, List.mem_append, List.mem_singleton]
      intro c
      rcases c with c | c
      · exact hz c
      · exact q c.symm
    refine br_f (nI_ge (by omega) (by omega)) ⟨w, ?_⟩
    rw [nI_clamp (by omega)]
    refine br_c (fun c => ⟨w, br_c (fun c2 => ?_) (fun c2 => nm_r (nI_1 i) (h (fun q => c2 (congrArg Prod.snd q))))⟩) (fun c => nm_r (nI_1 i) (h (fun q => c (congrArg Prod.fst q))))
    refine gy_remember (by omega) hx ?_
    intro sB' bf' hs hb
    dsimp only
    refine gy_drop hS (by omega) ?_
    dsimp only
    refine gy_tell (g := g) (sb := fun k => gr_sh fl ce (nI k) (gy_L (S + 1) ko vo)) (b := fun k => gr_nw (nI k) (gy_L (S + 1) ko vo)) (by omega) (hx' i (by omega) c c2) hs hb (room i (by omega) c c2) ?_
    intro g' hg'
    dsimp only
    exact K i sB' bf' (by omega) c c2 g' hg'
end gzr
theorem gz_remove {k : Nat} {u : SX} {v : SY} (I : i_Rel k u v) (v1 v2 : Int32) : wpX_remove (fun r u' => wpY_remove (fun r' v' => r' = r ∧ i_Rel (k + 3) u' v') v v1 v2) u v1 v2 := by
  refine gz_el (P := fun u v => wpX_remove (fun r u' => wpY_remove (fun r' v' => r' = r ∧ i_Rel (k + 3) u' v') v v1 v2) u v1 v2) I ?_
  intro fl ce sb sa fr dp be af eS eK eF pa ko vo sB bf n R T G F hF
  have hR := hF.2.2.1
  have rl := gz_rl hF
  have tr := gz_tr hF
  have ok := hF.2.1.2.1
  have ynone : ¬ (v1, v2) ∈ gy_L R ko vo → wpY_remove (fun r' v' => r' = -1 ∧ i_Rel (k + 3) (gx_s (fl, ce, sb, sa, nI n, be, af, eS, eK, eF) (nI (gt_rp T)) fr dp G pa) v') (nI R, fl, ce, nI n, ko, vo, eS, eK, eF, sB, bf) v1 v2 := by
    intro hz
    refine br_c (fun _ => ⟨R + 1, ?_⟩) (fun _ => ⟨rfl, gz_in hF⟩)
    exact gy_rm_none hR hz ⟨rfl, gz_in hF⟩ R 0 (R + 1) (by omega) (by omega)
  unfold wpX_remove wpX_placeOf
  dsimp only
  rcases gz_key v1 with ⟨h0, hn⟩ | ⟨h0, h7, hn⟩ | ⟨j, hj, rfl, h0, h7⟩
  · exact br_t h0 (ynone (fun h => gz_nokey hF.2.2.2.1 hn _ h rfl))
  · exact br_f h0 (br_t h7 (ynone (fun h => gz_nokey hF.2.2.2.1 hn _ h rfl)))
  · refine br_f h0 (br_f h7 ?_)
    rcases gz_22 hF.1 with ⟨n22, e22⟩ | ⟨n22, e22⟩
    · refine br_t e22 ?_
      rw [ga_place hj]
      have hq := ga_pclt hj v2
      refine gx_timesOf (W := (fl, ce, sb, sa, nI n, be, af, eS, eK, eF)) (fr := fr) (dp := dp) (G := G) (pa := pa) tr (by omega) ?_
      rw [gr_x_tm rl hj]
      have hle := gr_eqc_le (nI j) v2 (gy_L R ko vo)
      rw [gy_L_len] at hle
      by_cases hin : (nI j, v2) ∈ gy_L R ko vo
      · have hpos : 0 < gr_eqc (nI j) v2 (gy_L R ko vo) := List.countP_pos_iff.mpr ⟨_, hin, by simp⟩
        refine br_f (nI_ne0 hpos (by omega)) ?_
        refine gx_note (fl := fl) (ce := ce) (sb := sb) (sa := sa) (en := nI n) (be := be) (af := af) (eS := eS) (eK := eK) (eF := eF) (fr := fr) (dp := dp) (G := G) (pa := pa) tr rl hj ?_
        intro be' af' hbe
        dsimp only
        refine gx_drop (W := (fl, ce, gr_sh fl ce (nI j) (gy_L R ko vo), gr_sh fl ce (nI j) (gy_L R ko vo), nI n, be', af', eS, eK, eF)) (fr := fr) (dp := dp) (G := G) (pa := pa) hF.2.1 ((gr_memL rl _).mpr ⟨_, hin, gr_en_n hj v2⟩) ?_
        intro T' G' fr' dp' F' pa' I' pm
        dsimp only
        obtain ⟨S, rfl⟩ : ∃ S, R = S + 1 := by
          obtain ⟨i, hi, _⟩ := gy_L_mem.mp hin
          exact ⟨R - 1, by omega⟩
        obtain ⟨M, eM⟩ : ∃ M, M = (gy_L (S + 1) ko vo).erase (nI j, v2) := ⟨_, rfl⟩
        have pM : List.Perm (gy_L (S + 1) ko vo) ((nI j, v2) :: M) := by rw [eM]; exact List.perm_cons_erase hin
        have pY : ∀ i, i < S + 1 → ko i = nI j → vo i = v2 → List.Perm M (gy_L S (upd ko i (ko S)) (upd vo i (vo S))) := by
          intro i hi e1 e2
          have h := gy_L_drop (ko := ko) (vo := vo) S i hi _ _ rfl rfl
          rw [e1, e2] at h
          exact (pM.symm.trans h).cons_inv
        have okM : gr_ok M := fun r hr => hF.2.2.2.1 r (pM.mem_iff.mpr (List.mem_cons_of_mem _ hr))
        have pmM : List.Perm (gt_ft (gt_il T')) (M.map gr_en) := by
          have h1 : List.Perm (ga_pc j v2 :: gt_ft (gt_il T')) (ga_pc j v2 :: M.map gr_en) := by
            refine pm.symm.trans (hF.2.2.2.2.trans ?_)
            have h2 := pM.map gr_en
            rw [List.map_cons, gr_en_n hj] at h2
            exact h2
          exact h1.cons_inv
        have rlM : gr_rl (gt_il T') M := ⟨I'.2.2.2.1, fun x hx => (I'.2.2.2.2.1 x hx).2, okM, pmM⟩
        have hone := gz_one (fl := fl) (ce := ce) (L := gy_L (S + 1) ko vo) (M := M) hj (fun i hi => gz_fl_del (r := (nI j, v2)) (fun e => hi e.symm) pM) (n, eS, eK, eF)
        refine gx_log (fl := fl) (ce := ce) (sb := gr_sh fl ce (nI j) (gy_L (S + 1) ko vo)) (sa := gr_sh fl ce (nI j) (gy_L (S + 1) ko vo)) (be := be') (af := af') (eS := eS) (eK := eK) (eF := eF) (fr := fr') (dp := dp') (G := G') (pa := pa') (L := M) (gx_inv_tr I') rlM hj n22 hbe ?_
        intro af'' g hg
        dsimp only
        have hlen : M.length = S := by
          have h := pM.length_eq
          rw [gy_L_len, List.length_cons] at h
          omega
        rw [ga_cl (gx_rp41 I'.2.1), gx_r I'.1 I'.2.1, gr_totL rlM, hlen]
        refine ⟨ga_in (gx_rp41 I'.2.1), ?_⟩
        have g24 : g.1 ≤ 24 := by
          rw [hg, ← hone.1]
          exact hone.2 n22 8 (by omega)
        have rlY : ∀ i, i < S + 1 → ko i = nI j → vo i = v2 → gr_rl (gt_il T') (gy_L S (upd ko i (ko S)) (upd vo i (vo S))) := by
          intro i hi e1 e2
          have h := pY i hi e1 e2
          exact ⟨rlM.1, rlM.2.1, fun r hr => okM r (h.mem_iff.mpr hr), pmM.trans (h.map gr_en)⟩
        have hone2 : ∀ i, i < S + 1 → ko i = nI j → vo i = v2 → gl_tell (fun k => gr_sh fl ce (nI k) (gy_L (S + 1) ko vo)) (fun k => gr_sh fl ce (nI k) (gy_L S (upd ko i (ko S)) (upd vo i (vo S)))) (fun k => gr_nw (nI k) (gy_L (S + 1) ko vo)) (fun k => gr_nw (nI k) (gy_L S (upd ko i (ko S)) (upd vo i (vo S)))) = gl_tell (fun k => gr_sh fl ce (nI k) (gy_L (S + 1) ko vo)) (fun k => gr_sh fl ce (nI k) M) (fun k => gr_nw (nI k) (gy_L (S + 1) ko vo)) (fun k => gr_nw (nI k) M) := by
          intro i hi e1 e2
          have h := pY i hi e1 e2
          have q1 : (fun k => gr_sh fl ce (nI k) (gy_L S (upd ko i (ko S)) (upd vo i (vo S)))) = (fun k => gr_sh fl ce (nI k) M) := funext fun k => (gr_c_sh (h.filter _) fl ce).symm
          have q2 : (fun k => gr_nw (nI k) (gy_L S (upd ko i (ko S)) (upd vo i (vo S)))) = (fun k => gr_nw (nI k) M) := funext fun k => funext fun f => (gr_c_nw (h.filter _) f).symm
          rw [q1, q2]
        refine br_t e22 ⟨S + 2, ?_⟩
        refine gy_rm_some (g := (n, eS, eK, eF)) (by omega) hin (gz_ex rl) (fun i hi e1 e2 => gz_ex (rlY i hi e1 e2)) (fun i hi e1 e2 => by rw [hone2 i hi e1 e2]; exact hone.2 n22) ?_ (S + 1) 0 (S + 2) (by omega) (by omega) (fun h => absurd h List.not_mem_nil)
        intro i sB' bf' hi e1 e2 g' hg'
        have e : g' = g := by rw [hg', hone2 i hi e1 e2, hone.1, hg]
        rw [e]
        exact ⟨rfl, gz_in ⟨g24, I', by omega, (rlY i hi e1 e2).2.2.1, (rlY i hi e1 e2).2.2.2⟩⟩
      · have hz : gr_eqc (nI j) v2 (gy_L R ko vo) = 0 := by
          refine List.countP_eq_zero.mpr (fun r hr => ?_)
          rw [decide_eq_true_eq]
          intro q
          apply hin
          have e : r = (nI j, v2) := by
            obtain ⟨a, b⟩ := r
            obtain ⟨q1, q2⟩ := q
            dsimp only at q1 q2
            rw [q1, q2]
          rw [← e]; exact hr
        exact br_t (by rw [hz]; rfl) (ynone hin)
    · refine br_f e22 ?_
      exact br_f e22 ⟨rfl, gz_in hF⟩
end
section
/-! removeGroup -/
def gz_ne (k : Int32) (L : List gr_R) : List gr_R := L.filter (fun r => decide (¬ r.1 = k))
theorem gz_ne_p {k : Int32} {L M : List gr_R} (h : List.Perm L M) : List.Perm (gz_ne k L) (gz_ne k M) := h.filter _
theorem gz_ne_c {v k : Int32} {L M : List gr_R} (h : List.Perm L ((k, v) :: M)) : List.Perm (gz_ne k L) (gz_ne k M) := by
  have q := h.filter (fun r => decide (¬ r.1 = k))
  rw [List.filter_cons_of_neg (by simp)] at q
  exact q
theorem gz_ne_all {k : Int32} {L : List gr_R} (h : ∀ r ∈ L, ¬ r.1 = k) : gz_ne k L = L := by
  unfold gz_ne
  rw [List.filter_eq_self]
  intro r hr
  simp [h r hr]
theorem gz_ne_cnt {k : Int32} {L : List gr_R} (h : gr_cnt k L = 0) : gz_ne k L = L := by
  refine gz_ne_all (fun r hr e => ?_)
  have := List.countP_eq_zero.mp h r hr
  simp [e] at this
theorem gz_ne_len (k : Int32) : ∀ L : List gr_R, (gz_ne k L).length + gr_cnt k L = L.length := by
  intro L
  induction L with
  | nil => rfl
  | cons r L ih =>
    unfold gz_ne gr_cnt at ih ⊢
    by_cases c : r.1 = k
    · rw [List.filter_cons_of_neg (by simp [c]), List.countP_cons_of_pos (by simp [c]), List.length_cons]; omega
    · rw [List.filter_cons_of_pos (by simp [c]), List.countP_cons_of_neg (by simp [c]), List.length_cons, List.length_cons]; omega
theorem gz_ne_low {k : Nat} (hk : k < 8) {L M : List gr_R} (ho : gr_ok L) (ho' : gr_ok M) (h : List.Perm (gz_ne (nI k) L) (gz_ne (nI k) M)) : L.countP (fun r => decide (gr_en r < k * 4294967296)) = M.countP (fun r => decide (gr_en r < k * 4294967296)) := by
  have e : ∀ N : List gr_R, gr_ok N → N.countP (fun r => decide (gr_en r < k * 4294967296)) = (gz_ne (nI k) N).countP (fun r => decide (gr_en r < k * 4294967296)) := by
    intro N hN
    unfold gz_ne
    rw [List.countP_filter]
    refine List.countP_congr (fun r hr => ?_)
    rw [Bool.and_eq_true, decide_eq_true_eq, decide_eq_true_eq]
    constructor
    · intro a
      refine ⟨a, fun q => ?_⟩
      obtain ⟨b, w⟩ := r
      dsimp only at q
      subst q
      rw [gr_en_n hk] at a
      have := (ga_pclo k w).1
      omega
    · exact fun a => a.1
  rw [e L ho, e M ho']
  exact h.countP_eq _
section gzg
variable {W : gx_W} {fr dp : Int32} {G : Nat → gx_C} {pa : Nat → Int32}
theorem gx_rg60 {post : Int32 → SX → Prop} {k c : Nat} {L : List gr_R} (hk : k < 8) (hc : c = gr_cnt (nI k) L) (hc40 : c ≤ 40) (ho : gr_ok L) (A : Nat) (hA : A = L.countP (fun r => decide (gr_en r < k * 4294967296)))
    (K : ∀ (T : gt_T) (G : Nat → gx_C) (fr dp : Int32) (F : List Nat) (pa : Nat → Int32), gx_inv fr G T F → gr_rl (gt_il T) (gz_ne (nI k) L) → wpX_logChange (fun u => post (nI c) u) (gx_s W (nI (gt_rp T)) fr dp G pa) (nI k)) :
    ∀ (d i n : Nat) (T : gt_T) (G : Nat → gx_C) (fr dp : Int32) (F : List Nat) (pa : Nat → Int32) (M : List gr_R), i + d = c → d < n → gx_inv fr G T F → gr_rl (gt_il T) M → gr_cnt (nI k) M = d → List.Perm (gz_ne (nI k) M) (gz_ne (nI k) L) →
      wX_removeGroup_60 post (nI k) (nI A) (nI c) n (nI i) (nI (gt_rp T)) fr dp W.1 W.2.1 W.2.2.1 W.2.2.2.1 W.2.2.2.2.1 (fun qq => (G qq).1) (fun qq => (G qq).2.1) (fun qq => (G qq).2.2.1) (fun qq => (G qq).2.2.2.1) (fun qq => (G qq).2.2.2.2.1) (fun qq => (G qq).2.2.2.2.2.1) (fun qq => (G qq).2.2.2.2.2.2.1) (fun qq => (G qq).2.2.2.2.2.2.2) pa W.2.2.2.2.2.1 W.2.2.2.2.2.2.1 W.2.2.2.2.2.2.2.1 W.2.2.2.2.2.2.2.2.1 W.2.2.2.2.2.2.2.2.2 := by
  intro d
  induction d with
  | zero =>
    intro i n T G fr dp F pa M hi hn I rl hm hp
    obtain ⟨n, rfl⟩ : ∃ a, n = a + 1 := ⟨n - 1, by omega⟩
    have e : i = c := by omega
    rw [e]
    refine br_t (nI_le (Nat.le_refl _) (by omega)) ?_
    rw [gz_ne_cnt hm] at hp
    refine K T G fr dp F pa I ⟨rl.1, rl.2.1, fun r hr => rl.2.2.1 r (hp.mem_iff.mpr hr), rl.2.2.2.trans (hp.map gr_en)⟩
  | succ d ih =>
    intro i n T G fr dp F pa M hi hn I rl hm hp
    obtain ⟨n, rfl⟩ : ∃ a, n = a + 1 := ⟨n - 1, by omega⟩
    refine br_f (nI_ge (by omega) (by omega)) ?_
    obtain ⟨v, e1, e2⟩ := gr_x_rank rl (j := 0) hk (by omega)
    have eA : A = gt_rb (k * 4294967296) (gt_il T) := by
      rw [hA, gr_rbL rl]
      exact (gz_ne_low hk rl.2.2.1 ho hp).symm
    have hrow := gr_x_rows rl hk
    have hle : gt_rb ((k + 1) * 4294967296) (gt_il T) ≤ gt_tot (gt_il T) := by
      rw [gt_rb_ft, gt_tot_ft]; exact List.countP_le_length
    rw [Nat.add_zero, ← eA] at e1
    rw [← eA] at hrow
    refine gx_rowAt (W := W) (fr := fr) (dp := dp) (G := G) (pa := pa) (gx_inv_tr I) (by omega) ?_
    rw [e1]
    refine gx_drop (W := W) (fr := fr) (dp := dp) (G := G) (pa := pa) I ((gr_memL rl _).mpr ⟨_, e2.1, gr_en_n hk v⟩) ?_
    intro T' G' fr' dp' F' pa' I' pm
    dsimp only
    refine nm_r (nI_1 i) ?_
    have pM : List.Perm M ((nI k, v) :: M.erase (nI k, v)) := List.perm_cons_erase e2.1
    have okM : gr_ok (M.erase (nI k, v)) := fun r hr => rl.2.2.1 r (pM.mem_iff.mpr (List.mem_cons_of_mem _ hr))
    have pmM : List.Perm (gt_ft (gt_il T')) ((M.erase (nI k, v)).map gr_en) := by
      have h1 : List.Perm (ga_pc k v :: gt_ft (gt_il T')) (ga_pc k v :: (M.erase (nI k, v)).map gr_en) := by
        refine pm.symm.trans (rl.2.2.2.trans ?_)
        have h2 := pM.map gr_en
        rw [List.map_cons, gr_en_n hk] at h2
        exact h2
      exact h1.cons_inv
    refine ih (i + 1) n T' G' fr' dp' F' pa' (M.erase (nI k, v)) (by omega) (by omega) I' ⟨I'.2.2.2.1, fun x hx => (I'.2.2.2.2.1 x hx).2, okM, pmM⟩ ?_ ((gz_ne_c pM).symm.trans hp)
    have h3 : gr_cnt (nI k) M = gr_cnt (nI k) ((nI k, v) :: M.erase (nI k, v)) := pM.countP_eq _
    have h4 : gr_cnt (nI k) ((nI k, v) :: M.erase (nI k, v)) = gr_cnt (nI k) (M.erase (nI k, v)) + 1 := List.countP_cons_of_pos (by simp)
    omega
end gzg
section gzh
variable {fl ce : Int32} {so ks fd : Nat → Int32}
theorem gy_rg37 {post : Int32 → SY → Prop} {x x2 : Int32} {en : Int32} {sB bf : Nat → Int32} {L : List gr_R}
    (K : ∀ (R : Nat) (ko vo : Nat → Int32), R ≤ 40 → List.Perm (gy_L R ko vo) (gz_ne x L) → wpY_tell (fun u => match u with | (f_rows, _, _, _, _, _, _, _, _, _, _) => post (x2 - f_rows) u) (nI R, fl, ce, en, ko, vo, so, ks, fd, sB, bf)) :
    ∀ (i n R : Nat) (ko vo : Nat → Int32), i ≤ R → R ≤ 40 → i < n → (∀ j, i ≤ j → j < R → ¬ ko j = x) → List.Perm (gz_ne x (gy_L R ko vo)) (gz_ne x L) →
      wY_removeGroup_37 post x x2 n (nI i - 1) (nI R) fl ce en ko vo so ks fd sB bf := by
  intro i
  induction i with
  | zero =>
    intro n R ko vo hi hR hn hz hp
    obtain ⟨n, rfl⟩ : ∃ a, n = a + 1 := ⟨n - 1, by omega⟩
    have e : gz_ne x (gy_L R ko vo) = gy_L R ko vo := by
      refine gz_ne_all (fun r hr q => ?_)
      obtain ⟨j, hj, e⟩ := gy_L_mem.mp hr
      rw [← e] at q
      exact hz j (Nat.zero_le _) hj q
    rw [e] at hp
    exact br_t (by decide) (K R ko vo hR hp)
  | succ i ih =>
    intro n R ko vo hi hR hn hz hp
    obtain ⟨n, rfl⟩ : ∃ a, n = a + 1 := ⟨n - 1, by omega⟩
    have w : vp_in (nI i) 40 := vp_in_nI (by omega) (by omega)
    rw [nI_pred]
    refine br_f (nI_pos (by omega)) ⟨w, ?_⟩
    rw [nI_clamp (by omega)]
    refine br_c (fun c => ?_) (fun c => nm_r (ga_mm i) ?_)
    · obtain ⟨S, rfl⟩ : ∃ S, R = S + 1 := ⟨R - 1, by omega⟩
      refine gy_drop (by omega) (by omega) ?_
      dsimp only
      refine nm_r (ga_mm i) (ih n S _ _ (by omega) (by omega) (by omega) ?_ ?_)
      · intro j h1 h2
        by_cases e : j = i
        · rw [e, pk_us]; exact hz S (by omega) (by omega)
        · rw [pk_un e]; exact hz j (by omega) (by omega)
      · have h := gy_L_drop (ko := ko) (vo := vo) S i (by omega) _ _ rfl rfl
        rw [c] at h
        exact (gz_ne_c h).symm.trans hp
    · refine ih n R ko vo (by omega) hR (by omega) ?_ hp
      intro j h1 h2
      by_cases e : j = i
      · rw [e]; exact c
      · exact hz j (by omega) h2
end gzh
theorem gz_fl_ne {L : List gr_R} {j k : Int32} (h : ¬ j = k) : List.Perm (L.filter (fun r => decide (r.1 = j))) ((gz_ne k L).filter (fun r => decide (r.1 = j))) := by
  unfold gz_ne
  rw [List.filter_filter]
  refine List.Perm.of_eq (List.filter_congr (fun r _ => ?_))
  by_cases c : r.1 = j
  · have d : ¬ r.1 = k := fun e => h (by rw [← c, e])
    simp [c, h]
  · simp [c]
theorem gz_removeGroup {k : Nat} {u : SX} {v : SY} (I : i_Rel k u v) (v1 : Int32) : wpX_removeGroup (fun r u' => wpY_removeGroup (fun r' v' => r' = r ∧ i_Rel (k + 3) u' v') v v1) u v1 := by
  refine gz_el (P := fun u v => wpX_removeGroup (fun r u' => wpY_removeGroup (fun r' v' => r' = r ∧ i_Rel (k + 3) u' v') v v1) u v1) I ?_
  intro fl ce sb sa fr dp be af eS eK eF pa ko vo sB bf n R T G F hF
  have hR := hF.2.2.1
  have rl := gz_rl hF
  have tr := gz_tr hF
  unfold wpX_removeGroup wpX_placeOf wpX_placeOfEnd
  dsimp only
  rcases gz_key v1 with ⟨h0, hn⟩ | ⟨h0, h7, hn⟩ | ⟨j, hj, rfl, h0, h7⟩
  · refine br_t h0 ?_
    exact br_t h0 ⟨rfl, gz_in hF⟩
  · refine br_f h0 (br_t h7 ?_)
    exact br_f h0 (br_t h7 ⟨rfl, gz_in hF⟩)
  · refine br_f h0 (br_f h7 ?_)
    rcases gz_22 hF.1 with ⟨n22, e22⟩ | ⟨n22, e22⟩
    · refine br_t e22 ?_
      obtain ⟨L, eL⟩ : ∃ L, L = gy_L R ko vo := ⟨_, rfl⟩
      have hcle := gr_cnt_le (nI j) L
      rw [eL, gy_L_len, ← eL] at hcle
      rw [← eL] at rl
      refine gx_note (fl := fl) (ce := ce) (sb := sb) (sa := sa) (en := nI n) (be := be) (af := af) (eS := eS) (eK := eK) (eF := eF) (fr := fr) (dp := dp) (G := G) (pa := pa) tr rl hj ?_
      intro be' af' hbe
      dsimp only
      rw [ga_place hj, ga_placeE hj, ga_pc0]
      obtain ⟨sh, esh⟩ : ∃ sh, sh = gr_sh fl ce (nI j) L := ⟨_, rfl⟩
      rw [← esh]
      refine gx_rowsBelow (W := (fl, ce, sh, sh, nI n, be', af', eS, eK, eF)) (fr := fr) (dp := dp) (G := G) (pa := pa) tr (by omega) ?_
      refine gx_rowsBelow (W := (fl, ce, sh, sh, nI n, be', af', eS, eK, eF)) (fr := fr) (dp := dp) (G := G) (pa := pa) tr (by omega) ?_
      have hrow := gr_x_rows rl hj
      refine nm_r (e' := nI (gr_cnt (nI j) L)) (by rw [pk_sub (by omega)]; exact congrArg nI (by omega)) ⟨gr_cnt (nI j) L + 1, ?_⟩
      refine gx_rg60 (W := (fl, ce, sh, sh, nI n, be', af', eS, eK, eF)) (L := L) hj rfl (by omega) rl.2.2.1 _ (gr_rbL rl _) ?_ (gr_cnt (nI j) L) 0 (gr_cnt (nI j) L + 1) T G fr dp F pa L (by omega) (by omega) hF.2.1 rl rfl (List.Perm.refl _)
      intro T' G' fr' dp' F' pa' I' rlM
      have hone := gz_one (fl := fl) (ce := ce) (L := L) (M := gz_ne (nI j) L) hj (fun i hi => gz_fl_ne hi) (n, eS, eK, eF)
      refine gx_log (fl := fl) (ce := ce) (sb := sh) (sa := sh) (be := be') (af := af') (eS := eS) (eK := eK) (eF := eF) (fr := fr') (dp := dp') (G := G') (pa := pa') (L := gz_ne (nI j) L) (gx_inv_tr I') rlM hj n22 hbe ?_
      intro af'' g hg
      rw [esh] at hg
      have g24 : g.1 ≤ 24 := by
        rw [hg, ← hone.1]
        exact hone.2 n22 8 (by omega)
      unfold wpY_removeGroup
      dsimp only
      refine br_f h0 (br_f h7 (br_t e22 ?_))
      refine gy_remember hR (by rw [← eL]; exact gz_ex rl) ?_
      intro sB' bf' hs hb
      rw [← eL] at hs hb
      dsimp only
      refine nm_e ⟨R + 1, ?_⟩
      refine gy_rg37 (L := L) ?_ R (R + 1) R ko vo (Nat.le_refl _) hR (by omega) (fun i h1 h2 => absurd h1 (by omega)) (by rw [eL])
      intro R' ko' vo' hR' pY
      have rlY : gr_rl (gt_il T') (gy_L R' ko' vo') := ⟨rlM.1, rlM.2.1, fun r hr => rlM.2.2.1 r (pY.mem_iff.mp hr), rlM.2.2.2.trans (pY.symm.map gr_en)⟩
      have hone2 : gl_tell (fun k => gr_sh fl ce (nI k) L) (fun k => gr_sh fl ce (nI k) (gy_L R' ko' vo')) (fun k => gr_nw (nI k) L) (fun k => gr_nw (nI k) (gy_L R' ko' vo')) = gl_tell (fun k => gr_sh fl ce (nI k) L) (fun k => gr_sh fl ce (nI k) (gz_ne (nI j) L)) (fun k => gr_nw (nI k) L) (fun k => gr_nw (nI k) (gz_ne (nI j) L)) := by
        have q1 : (fun k => gr_sh fl ce (nI k) (gy_L R' ko' vo')) = (fun k => gr_sh fl ce (nI k) (gz_ne (nI j) L)) := funext fun k => gr_c_sh (pY.filter _) fl ce
        have q2 : (fun k => gr_nw (nI k) (gy_L R' ko' vo')) = (fun k => gr_nw (nI k) (gz_ne (nI j) L)) := funext fun k => funext fun f => gr_c_nw (pY.filter _) f
        rw [q1, q2]
      refine gy_tell (g := (n, eS, eK, eF)) (sb := fun k => gr_sh fl ce (nI k) L) (b := fun k => gr_nw (nI k) L) hR' (gz_ex rlY) hs hb (by rw [hone2]; exact hone.2 n22) ?_
      intro g' hg'
      dsimp only
      have e : g' = g := by rw [hg', hone2, hone.1, hg]
      rw [e]
      refine ⟨?_, gz_in ⟨g24, I', hR', rlY.2.2.1, rlY.2.2.2⟩⟩
      have l1 := pY.length_eq
      have l2 := gz_ne_len (nI j) L
      have l3 : L.length = R := by rw [eL, gy_L_len]
      rw [gy_L_len] at l1
      rw [pk_sub (by omega)]
      exact congrArg nI (by omega)
    · refine br_f e22 ?_
      exact br_f h0 (br_f h7 (br_f e22 ⟨rfl, gz_in hF⟩))
end
section
/-! limits -/
section gzl
variable {fr dp : Int32} {G : Nat → gx_C} {T : gt_T} {L : List gr_R}
theorem gx_lim67 {post : Int32 → SX → Prop} {nf nc of oc : Int32} {g : gl_G} (tr : gx_tr G T) (rl : gr_rl (gt_il T) L) (hg : g.1 = 0)
    (K : ∀ (sb sa : Int32) (be af pa : Nat → Int32) (g' : gl_G), g' = gl_tell (fun k => gr_sh of oc (nI k) L) (fun k => gr_sh nf nc (nI k) L) (fun k => gr_nw (nI k) L) (fun k => gr_nw (nI k) L) 8 g →
      post (nI g'.1) (gx_s (nf, nc, sb, sa, nI g'.1, be, af, g'.2.1, g'.2.2.1, g'.2.2.2) (nI (gt_rp T)) fr dp G pa)) :
    ∀ (d i n : Nat) (fl ce sb sa : Int32) (be af pa : Nat → Int32) (g' : gl_G), i + d = 8 → d < n → (i = 8 → fl = nf ∧ ce = nc) → g' = gl_tell (fun k => gr_sh of oc (nI k) L) (fun k => gr_sh nf nc (nI k) L) (fun k => gr_nw (nI k) L) (fun k => gr_nw (nI k) L) i g →
      wX_limits_67 post nf nc of oc n (nI i) (nI (gt_rp T)) fr dp fl ce sb sa (nI g'.1) (fun qq => (G qq).1) (fun qq => (G qq).2.1) (fun qq => (G qq).2.2.1) (fun qq => (G qq).2.2.2.1) (fun qq => (G qq).2.2.2.2.1) (fun qq => (G qq).2.2.2.2.2.1) (fun qq => (G qq).2.2.2.2.2.2.1) (fun qq => (G qq).2.2.2.2.2.2.2) pa be af g'.2.1 g'.2.2.1 g'.2.2.2 := by
  intro d
  induction d with
  | zero =>
    intro i n fl ce sb sa be af pa g' hi hn hf hg'
    obtain ⟨n, rfl⟩ : ∃ a, n = a + 1 := ⟨n - 1, by omega⟩
    have e : i = 8 := by omega
    subst e
    obtain ⟨e1, e2⟩ := hf rfl
    subst e1 e2
    exact br_t (by decide) (K sb sa be af pa g' hg')
  | succ d ih =>
    intro i n fl ce sb sa be af pa g' hi hn hf hg'
    obtain ⟨n, rfl⟩ : ∃ a, n = a + 1 := ⟨n - 1, by omega⟩
    have h8 : i < 8 := by omega
    have hroom : g'.1 ≤ 22 := by
      have := gl_tell_1 (fun k => gr_sh of oc (nI k) L) (fun k => gr_sh nf nc (nI k) L) (fun k => gr_nw (nI k) L) (fun k => gr_nw (nI k) L) i g
      rw [← hg', hg] at this
      omega
    refine br_f (nI_ge (b := 8) (by omega) (by decide)) ?_
    refine gx_note (fl := of) (ce := oc) (sb := sb) (sa := sa) (en := nI g'.1) (be := be) (af := af) (eS := g'.2.1) (eK := g'.2.2.1) (eF := g'.2.2.2) (fr := fr) (dp := dp) (G := G) (pa := pa) tr rl h8 ?_
    intro be' af' hbe
    dsimp only
    refine gx_log (fl := nf) (ce := nc) (sb := gr_sh of oc (nI i) L) (sa := gr_sh of oc (nI i) L) (be := be') (af := af') (eS := g'.2.1) (eK := g'.2.2.1) (eF := g'.2.2.2) (fr := fr) (dp := dp) (G := G) (pa := pa) (L := L) (m := g'.1) tr rl h8 hroom hbe ?_
    intro af'' g2 hg2
    dsimp only
    refine nm_r (nI_1 i) ?_
    exact ih (i + 1) n nf nc _ _ be' af'' pa g2 (by omega) (by omega) (fun _ => ⟨rfl, rfl⟩) (by rw [hg2, hg']; rfl)
end gzl
/-- the clamped value -/
def gz_cl (x : Int32) : Int32 := if 0 ≤ x then (if x ≤ 40 then x else 40) else 0
theorem gz_clY {post : Int32 → Prop} {x : Int32} (K : post (gz_cl x)) : wpY_clamped post x := by
  unfold gz_cl at K
  refine br_c (fun c => br_c (fun c2 => ?_) (fun c2 => ?_)) (fun c => ?_)
  · rw [if_pos c, if_pos c2] at K; exact K
  · rw [if_pos c, if_neg c2] at K; exact K
  · rw [if_neg c] at K; exact K
theorem gz_clX {A : Int32 → Prop} {x : Int32} (K : A (gz_cl x)) : ((0 ≤ x → ((x ≤ 40 → A x) ∧ (¬ x ≤ 40 → A 40))) ∧ (¬ 0 ≤ x → A 0)) := by
  unfold gz_cl at K
  refine br_c (fun c => br_c (fun c2 => ?_) (fun c2 => ?_)) (fun c => ?_)
  · rw [if_pos c, if_pos c2] at K; exact K
  · rw [if_pos c, if_neg c2] at K; exact K
  · rw [if_neg c] at K; exact K
theorem gz_limits {k : Nat} {u : SX} {v : SY} (I : i_Rel k u v) (v1 v2 : Int32) : wpX_limits (fun r u' => wpY_limits (fun r' v' => r' = r ∧ i_Rel (k + 3) u' v') v v1 v2) u v1 v2 := by
  refine gz_el (P := fun u v => wpX_limits (fun r u' => wpY_limits (fun r' v' => r' = r ∧ i_Rel (k + 3) u' v') v v1 v2) u v1 v2) I ?_
  intro fl ce sb sa fr dp be af eS eK eF pa ko vo sB bf n R T G F hF
  have hR := hF.2.2.1
  have rl := gz_rl hF
  have tr := gz_tr hF
  have hn := hF.1
  unfold wpX_limits
  dsimp only
  by_cases h0 : n = 0
  · have e0 : nI n ≤ 0 := (ga_le0 (by omega)).mpr h0
    refine br_t e0 (gz_clX (A := fun z => wX_limits_29 (fun r u' => wpY_limits (fun r' v' => r' = r ∧ i_Rel (k + 3) u' v') (nI R, fl, ce, nI n, ko, vo, eS, eK, eF, sB, bf) v1 v2) v2 z (nI (gt_rp T)) fr dp fl ce sb sa (nI n) (fun qq => (G qq).1) (fun qq => (G qq).2.1) (fun qq => (G qq).2.2.1) (fun qq => (G qq).2.2.2.1) (fun qq => (G qq).2.2.2.2.1) (fun qq => (G qq).2.2.2.2.2.1) (fun qq => (G qq).2.2.2.2.2.2.1) (fun qq => (G qq).2.2.2.2.2.2.2) pa be af eS eK eF) ?_)
    refine gz_clX (A := fun z => wX_limits_50 (fun r u' => wpY_limits (fun r' v' => r' = r ∧ i_Rel (k + 3) u' v') (nI R, fl, ce, nI n, ko, vo, eS, eK, eF, sB, bf) v1 v2) (gz_cl v1) z (nI (gt_rp T)) fr dp fl ce sb sa (nI n) (fun qq => (G qq).1) (fun qq => (G qq).2.1) (fun qq => (G qq).2.2.1) (fun qq => (G qq).2.2.2.1) (fun qq => (G qq).2.2.2.2.1) (fun qq => (G qq).2.2.2.2.2.1) (fun qq => (G qq).2.2.2.2.2.2.1) (fun qq => (G qq).2.2.2.2.2.2.2) pa be af eS eK eF) ?_
    refine ⟨9, ?_⟩
    refine gx_lim67 (g := (n, eS, eK, eF)) tr rl h0 ?_ 8 0 9 fl ce sb sa be af pa (n, eS, eK, eF) rfl (by omega) (fun q => nomatch q) rfl
    intro sb' sa' be' af' pa' g' hg'
    unfold wpY_limits
    dsimp only
    refine br_t e0 ?_
    refine gy_remember hR (gz_ex rl) ?_
    intro sB' bf' hs hb
    dsimp only
    refine gz_clY (gz_clY ?_)
    have room : ∀ i, i ≤ 8 → (gl_tell (fun k => gr_sh fl ce (nI k) (gy_L R ko vo)) (fun k => gr_sh (gz_cl v1) (gz_cl v2) (nI k) (gy_L R ko vo)) (fun k => gr_nw (nI k) (gy_L R ko vo)) (fun k => gr_nw (nI k) (gy_L R ko vo)) i (n, eS, eK, eF)).1 ≤ 24 := by
      intro i hi
      have := gl_tell_1 (fun k => gr_sh fl ce (nI k) (gy_L R ko vo)) (fun k => gr_sh (gz_cl v1) (gz_cl v2) (nI k) (gy_L R ko vo)) (fun k => gr_nw (nI k) (gy_L R ko vo)) (fun k => gr_nw (nI k) (gy_L R ko vo)) i (n, eS, eK, eF)
      dsimp only at this
      omega
    refine gy_tell (fl := gz_cl v1) (ce := gz_cl v2) (g := (n, eS, eK, eF)) (sb := fun k => gr_sh fl ce (nI k) (gy_L R ko vo)) (b := fun k => gr_nw (nI k) (gy_L R ko vo)) hR (gz_ex rl) hs hb room ?_
    intro g2 hg2
    dsimp only
    have e : g2 = g' := by rw [hg2, hg']
    rw [e]
    refine ⟨rfl, gz_in ⟨?_, hF.2⟩⟩
    rw [hg']
    exact room 8 (by omega)
  · have e0 : ¬ nI n ≤ 0 := fun e => h0 ((ga_le0 (by omega)).mp e)
    refine br_f e0 ?_
    exact br_f e0 ⟨rfl, gz_in hF⟩
end
section
/-! what is owed -/
theorem i_up {k : Nat} {u : SX} {v : SY} (h : i_Rel k u v) : i_Rel (k + 3) u v := h
theorem i_vc0 : wpX_init (fun u => wpY_init (fun v => i_Rel 0 u v)) := gz_vc0
theorem i_vc_insert {k : Nat} {u : SX} {v : SY} (I : i_Rel k u v) (hk : k + 3 ≤ 1536) (v1 : Int32) (v2 : Int32) : wpX_insert (fun r u' => wpY_insert (fun r' v' => r' = r ∧ i_Rel (k + 3) u' v') v v1 v2) u v1 v2 := gz_insert I v1 v2
theorem i_vc_remove {k : Nat} {u : SX} {v : SY} (I : i_Rel k u v) (hk : k + 3 ≤ 1536) (v1 : Int32) (v2 : Int32) : wpX_remove (fun r u' => wpY_remove (fun r' v' => r' = r ∧ i_Rel (k + 3) u' v') v v1 v2) u v1 v2 := gz_remove I v1 v2
theorem i_vc_removeGroup {k : Nat} {u : SX} {v : SY} (I : i_Rel k u v) (hk : k + 3 ≤ 1536) (v1 : Int32) : wpX_removeGroup (fun r u' => wpY_removeGroup (fun r' v' => r' = r ∧ i_Rel (k + 3) u' v') v v1) u v1 := gz_removeGroup I v1
theorem i_vc_limits {k : Nat} {u : SX} {v : SY} (I : i_Rel k u v) (hk : k + 3 ≤ 1536) (v1 : Int32) (v2 : Int32) : wpX_limits (fun r u' => wpY_limits (fun r' v' => r' = r ∧ i_Rel (k + 3) u' v') v v1 v2) u v1 v2 := gz_limits I v1 v2
theorem i_vc_pending {k : Nat} {u : SX} {v : SY} (I : i_Rel k u v) (hk : k + 3 ≤ 1536) : wpX_pending (fun r => wpY_pending (fun r' => r' = r ∧ i_Rel (k + 3) u v) v) u := gz_pending I
theorem i_vc_sort {k : Nat} {u : SX} {v : SY} (I : i_Rel k u v) (hk : k + 3 ≤ 1536) (v1 : Int32) : wpX_sort (fun r => wpY_sort (fun r' => r' = r ∧ i_Rel (k + 3) u v) v v1) u v1 := gz_sort I v1
theorem i_vc_key {k : Nat} {u : SX} {v : SY} (I : i_Rel k u v) (hk : k + 3 ≤ 1536) (v1 : Int32) : wpX_key (fun r => wpY_key (fun r' => r' = r ∧ i_Rel (k + 3) u v) v v1) u v1 := gz_keyc I v1
theorem i_vc_field {k : Nat} {u : SX} {v : SY} (I : i_Rel k u v) (hk : k + 3 ≤ 1536) (v1 : Int32) (v2 : Int32) : wpX_field (fun r => wpY_field (fun r' => r' = r ∧ i_Rel (k + 3) u v) v v1 v2) u v1 v2 := gz_field I v1 v2
theorem i_vc_take {k : Nat} {u : SX} {v : SY} (I : i_Rel k u v) (hk : k + 3 ≤ 1536) (v1 : Int32) : wpX_take (fun r u' => wpY_take (fun r' v' => r' = r ∧ i_Rel (k + 3) u' v') v v1) u v1 := gz_take I v1
theorem i_vc_now {k : Nat} {u : SX} {v : SY} (I : i_Rel k u v) (hk : k + 3 ≤ 1536) (v1 : Int32) (v2 : Int32) : wpX_now (fun r u' => wpY_now (fun r' => r' = r ∧ i_Rel (k + 3) u' v) v v1 v2) u v1 v2 := gz_now I v1 v2
theorem i_vc_below {k : Nat} {u : SX} {v : SY} (I : i_Rel k u v) (hk : k + 3 ≤ 1536) (v1 : Int32) (v2 : Int32) : wpX_below (fun r => wpY_below (fun r' => r' = r ∧ i_Rel (k + 3) u v) v v1 v2) u v1 v2 := gz_below I v1 v2
end
