section
/-- the two ends of an edge -/
def sl_A (e : Nat) : Nat := if e < 12 then e / 3 * 4 + e % 3 else e - 12
def sl_B (e : Nat) : Nat := if e < 12 then e / 3 * 4 + e % 3 + 1 else e - 8
/-- the edges of a point, four places each (24: none), and of a cell -/
def sl_p (i : Nat) : Nat := [0, 12, 24, 24, 0, 1, 13, 24, 1, 2, 14, 24, 2, 15, 24, 24, 3, 12, 16, 24, 3, 4, 13, 17, 4, 5, 14, 18, 5, 15, 19, 24, 6, 16, 20, 24, 6, 7, 17, 21, 7, 8, 18, 22, 8, 19, 23, 24, 9, 20, 24, 24, 9, 10, 21, 24, 10, 11, 22, 24, 11, 23, 24, 24].getD i 24
def sl_c (i : Nat) : Nat := [0, 3, 12, 13, 1, 4, 13, 14, 2, 5, 14, 15, 3, 6, 16, 17, 4, 7, 17, 18, 5, 8, 18, 19, 6, 9, 20, 21, 7, 10, 21, 22, 8, 11, 22, 23].getD i 24
/-- the single loops, as sets of edges -/
def sl_good : List Nat := [
  12297, 24594, 20507, 49188, 41014, 36927, 196680, 208961, 217171, 233591, 393360, 417922, 413835, 434342, 430255, 327896, 340177, 352458,
  348355, 368878, 364775, 786720, 835844, 827670, 823583, 1020247, 655792, 680354, 676267, 704916, 696710, 692623, 590328, 602609, 614890, 610787,
  639452, 651733, 631246, 627143, 3146304, 3342856, 3355137, 3363347, 3379767, 3474072, 3486353, 3498634, 3494531, 3515054, 3510951, 4166423, 3736504, 3748785,
  3761066, 3756963, 3785628, 3797909, 3777422, 3773319, 6292608, 6685712, 6710274, 6706187, 6726694, 6722607, 6620248, 6632529, 6644810, 6640707, 6661230, 6657127,
  6948144, 6972706, 6968619, 6997268, 6989062, 6984975, 6882680, 6894961, 6907242, 6903139, 6931804, 6944085, 6923598, 6919495, 5244608, 5441160, 5453441, 5461651,
  5478071, 5637712, 5662274, 5658187, 5678694, 5674607, 5572120, 5584401, 5596682, 5592579, 5613102, 5608999, 5900144, 5924706, 5920619, 5949268, 5941062, 5936975,
  5834552, 5846833, 5859114, 5855011, 5883676, 5895957, 5875470, 5871367, 12585216, 13371424, 13420548, 13412374, 13408287, 13604951, 13240496, 13265058, 13260971, 13289620,
  13281414, 13277327, 13175032, 13187313, 13199594, 13195491, 13224156, 13236437, 13215950, 13211847, 16751127, 16321208, 16333489, 16345770, 16341667, 16370332, 16382613, 16362126,
  16358023, 10489216, 10882320, 10906882, 10902795, 10923302, 10919215, 10816856, 10829137, 10841418, 10837315, 10857838, 10853735, 11275424, 11324548, 11316374, 11312287, 11144240,
  11168802, 11164715, 11193364, 11185158, 11181071, 11078776, 11091057, 11103338, 11099235, 11127900, 11140181, 11119694, 11115591, 9441216, 9637768, 9650049, 9658259, 9674679,
  9834320, 9858882, 9854795, 9875302, 9871215, 9768728, 9781009, 9793290, 9789187, 9809710, 9805607, 10227424, 10276548, 10268374, 10264287, 10423976, 10436257, 10473100,
  10485381, 10096240, 10120802, 10116715, 10145364, 10137158, 10133071, 10030648, 10042929, 10055210, 10051107, 10079772, 10092053, 10071566, 10067463]
def sl_all (n : Nat) (f : Nat → Bool) : Bool := (List.range n).all f
def sl_ct (C : Nat → Bool) (q : Nat) : Nat := (decide (q < 24) && C q).toNat
/-- how many of the four places of i hold an edge of C -/
def sl_n (C : Nat → Bool) (g : Nat → Nat) (i : Nat) : Nat := sl_ct C (g (i * 4)) + sl_ct C (g (i * 4 + 1)) + sl_ct C (g (i * 4 + 2)) + sl_ct C (g (i * 4 + 3))
/-- the set of the edges below k -/
def sl_mk (C : Nat → Bool) : Nat → Nat
  | 0 => 0
  | k + 1 => sl_mk C k + (if C k = true then 2 ^ k else 0)
/-- the pieces, as the program joins them -/
def sl_root (l : List Nat) : Nat → Nat → Nat
  | 0, p => p
  | n + 1, p => if l.getD p 0 = p then p else sl_root l n (l.getD p 0)
def sl_uf (C : Nat → Bool) : Nat → Nat → List Nat → Nat → List Nat × Nat
  | 0, _, l, k => (l, k)
  | n + 1, e, l, k => if C e = true then (if sl_root l 16 (sl_A e) = sl_root l 16 (sl_B e) then sl_uf C n (e + 1) l (k + 1) else sl_uf C n (e + 1) (l.set (sl_root l 16 (sl_A e)) (sl_root l 16 (sl_B e))) k) else sl_uf C n (e + 1) l k
def sl_pcs (C : Nat → Bool) (l : List Nat) : Nat → Nat → Nat → Nat
  | 0, _, a => a
  | n + 1, p, a => if l.getD p 0 = p ∧ 0 < sl_n C sl_p p then sl_pcs C l n (p + 1) (a + 1) else sl_pcs C l n (p + 1) a
def sl_cl (C : Nat → Bool) : Nat := (sl_uf C 24 0 (List.range 16) 0).2
def sl_pp (C : Nat → Bool) : Nat := sl_pcs C (sl_uf C 24 0 (List.range 16) 0).1 16 0 0
/-- labels of points, relabelled edge by edge: no edge of C closes a ring -/
def sl_run (C : Nat → Bool) : Nat → Nat → List Nat → Bool
  | 0, _, _ => true
  | n + 1, e, l => if C e = true then (if l.getD (sl_A e) 0 = l.getD (sl_B e) 0 then false else sl_run C n (e + 1) (l.map (fun z => if z = l.getD (sl_A e) 0 then l.getD (sl_B e) 0 else z))) else sl_run C n (e + 1) l
/-- what the program answers of a loop -/
def sl_ones (T : Nat) : Nat → Nat
  | 0 => 0
  | k + 1 => sl_ones T k + T / 2 ^ k % 2
def sl_in3 (T r : Nat) : Nat → Nat → Nat → Nat → Nat
  | 0, _, _, a => a
  | n + 1, c, o, a => sl_in3 T r n (c + 1) (o ^^^ (T / 2 ^ (12 + r * 4 + c) % 2)) (a + (o ^^^ (T / 2 ^ (12 + r * 4 + c) % 2)))
def sl_inr (T : Nat) : Nat → Nat → Nat → Nat
  | 0, _, a => a
  | n + 1, r, a => sl_inr T n (r + 1) (sl_in3 T r 3 0 0 a)
theorem sl_A_lt : ∀ e, e < 24 → sl_A e < 16 := by decide +kernel
theorem sl_B_lt : ∀ e, e < 24 → sl_B e < 16 := by decide +kernel
theorem sl_p_le : ∀ i, i < 64 → sl_p i ≤ 24 := by decide +kernel
theorem sl_c_lt : ∀ i, i < 36 → sl_c i < 24 := by decide +kernel
theorem sl_g_deg : ∀ T ∈ sl_good, ∀ p, p < 16 → sl_n T.testBit sl_p p = 0 ∨ sl_n T.testBit sl_p p = 2 := by decide +kernel
theorem sl_g_lt : ∀ T ∈ sl_good, T < 2 ^ 24 := by decide +kernel
theorem sl_g_nd : sl_good.Nodup := by decide +kernel
theorem sl_g_213 : sl_good.length = 213 := by decide +kernel
theorem sl_g_pos : 0 ∉ sl_good := by decide +kernel
theorem sl_g_law : ∀ T ∈ sl_good, sl_ones T 24 % 2 = 0 ∧ 1 ≤ sl_inr T 3 0 0 ∧ sl_ones T 24 ≤ 2 * sl_inr T 3 0 0 + 2 ∧ sl_ones T 24 ≤ 24 ∧ sl_inr T 3 0 0 ≤ 9 := by decide +kernel
theorem sl_g_uf : ∀ T ∈ sl_good, sl_cl T.testBit ≤ 1 ∧ sl_pp T.testBit ≤ 1 := by decide +kernel
theorem sl_g_cut : ∀ T ∈ sl_good, ∀ g, g < 24 → T.testBit g = true → sl_run (fun e => T.testBit e && !(e == g)) 24 0 (List.range 16) = true := by decide +kernel
/-- every even set of edges, out of its first nine -/
def sl_fl (x0 x1 x2 x3 x4 x5 x6 x7 x8 : Bool) : List Bool :=
  let x12 := x0
  let x13 := Bool.xor x0 x1
  let x14 := Bool.xor x1 x2
  let x15 := x2
  let x16 := Bool.xor x3 x12
  let x17 := Bool.xor (Bool.xor x3 x4) x13
  let x18 := Bool.xor (Bool.xor x4 x5) x14
  let x19 := Bool.xor x5 x15
  let x20 := Bool.xor x6 x16
  let x21 := Bool.xor (Bool.xor x6 x7) x17
  let x22 := Bool.xor (Bool.xor x7 x8) x18
  let x23 := Bool.xor x8 x19
  let x9 := x20
  let x10 := Bool.xor x9 x21
  let x11 := Bool.xor x10 x22
  [x0, x1, x2, x3, x4, x5, x6, x7, x8, x9, x10, x11, x12, x13, x14, x15, x16, x17, x18, x19, x20, x21, x22, x23]
def sl_chk (C : Nat → Bool) : Bool := !sl_all 16 (fun p => decide (sl_n C sl_p p = 0 ∨ sl_n C sl_p p = 2)) || (!decide (sl_cl C = 0 ∨ (sl_cl C ≤ 1 ∧ sl_pp C ≤ 1)) || decide (sl_mk C 24 = 0 ∨ sl_mk C 24 ∈ sl_good))
theorem sl_512 : ∀ x0 x1 x2 x3 x4 x5 x6 x7 x8 : Bool, sl_chk (fun e => (sl_fl x0 x1 x2 x3 x4 x5 x6 x7 x8).getD e false) = true := by decide +kernel
end
section
theorem sl_all_iff {n : Nat} {f : Nat → Bool} : sl_all n f = true ↔ ∀ i, i < n → f i = true := by
  unfold sl_all
  rw [List.all_eq_true]
  exact ⟨fun h i hi => h i (List.mem_range.mpr hi), fun h i hi => h i (List.mem_range.mp hi)⟩
theorem sl_gs (l : List Nat) (x y z : Nat) (hx : x < l.length) : (l.set x y).getD z 0 = if z = x then y else l.getD z 0 := by
  rw [List.getD_eq_getElem?_getD, List.getD_eq_getElem?_getD, List.getElem?_set]
  by_cases h : x = z
  · subst h
    simp [hx]
  · rw [if_neg h, if_neg (fun e => h e.symm)]
theorem sl_gm (l : List Nat) (f : Nat → Nat) (z : Nat) (hz : z < l.length) : (l.map f).getD z 0 = f (l.getD z 0) := by
  rw [List.getD_eq_getElem?_getD, List.getD_eq_getElem?_getD, List.getElem?_map, List.getElem?_eq_getElem hz]
  rfl
theorem sl_rg : ∀ x, x < 16 → (List.range 16).getD x 0 = x := by decide +kernel
theorem sl_run_sep {C : Nat → Bool} : ∀ n e l, l.length = 16 → sl_run C n e l = true → (∀ j, j < e → C j = true → l.getD (sl_A j) 0 = l.getD (sl_B j) 0) → ∀ k, e ≤ k → k < e + n → e + n ≤ 24 → C k = true → ∃ f : Nat → Nat, (∀ j, j < k → C j = true → f (sl_A j) = f (sl_B j)) ∧ f (sl_A k) ≠ f (sl_B k) := by
  intro n
  induction n with
  | zero => intro e l _ _ _ k h1 h2; omega
  | succ n ih =>
    intro e l hl hr hc k hk hk2 h24 hCk
    rw [sl_run] at hr
    by_cases hCe : C e = true
    · rw [if_pos hCe] at hr
      by_cases hx : l.getD (sl_A e) 0 = l.getD (sl_B e) 0
      · rw [if_pos hx] at hr
        exact absurd hr (by decide)
      · rw [if_neg hx] at hr
        by_cases hek : k = e
        · subst hek
          exact ⟨fun v => l.getD v 0, hc, hx⟩
        · refine ih (e + 1) _ (by rw [List.length_map, hl]) hr ?_ k (by omega) (by omega) (by omega) hCk
          intro j hj hCj
          have hA := sl_A_lt j (by omega)
          have hB := sl_B_lt j (by omega)
          rw [sl_gm _ _ _ (by omega), sl_gm _ _ _ (by omega)]
          by_cases hje : j = e
          · subst hje
            rw [if_pos rfl]
            by_cases hq : l.getD (sl_B j) 0 = l.getD (sl_A j) 0
            · rw [if_pos hq]
            · rw [if_neg hq]
          · rw [hc j (by omega) hCj]
    · rw [if_neg hCe] at hr
      by_cases hek : k = e
      · subst hek
        exact absurd hCk hCe
      · refine ih (e + 1) l hl hr ?_ k (by omega) (by omega) (by omega) hCk
        intro j hj hCj
        by_cases hje : j = e
        · subst hje
          exact absurd hCj hCe
        · exact hc j (by omega) hCj
theorem sl_root_f {l : List Nat} {f : Nat → Nat} (h : ∀ x, x < 16 → l.getD x 0 < 16 ∧ f (l.getD x 0) = f x) : ∀ n x, x < 16 → sl_root l n x < 16 ∧ f (sl_root l n x) = f x := by
  intro n
  induction n with
  | zero => intro x hx; exact ⟨hx, rfl⟩
  | succ n ih =>
    intro x hx
    rw [sl_root]
    by_cases e : l.getD x 0 = x
    · rw [if_pos e]
      exact ⟨hx, rfl⟩
    · rw [if_neg e]
      have h1 := h x hx
      have h2 := ih _ h1.1
      exact ⟨h2.1, h2.2.trans h1.2⟩
theorem sl_root_lt {l : List Nat} (h : ∀ x, x < 16 → l.getD x 0 < 16) (n x : Nat) (hx : x < 16) : sl_root l n x < 16 := (sl_root_f (f := fun _ => 0) (fun x hx => ⟨h x hx, rfl⟩) n x hx).1
theorem sl_uf_sep {C : Nat → Bool} : ∀ n e l k, l.length = 16 → e + n ≤ 24 → k < (sl_uf C n e l k).2 → ∃ j, e ≤ j ∧ j < e + n ∧ C j = true ∧ ∀ f : Nat → Nat, (∀ x, x < 16 → l.getD x 0 < 16 ∧ f (l.getD x 0) = f x) → (∀ i, e ≤ i → i < j → C i = true → f (sl_A i) = f (sl_B i)) → f (sl_A j) = f (sl_B j) := by
  intro n
  induction n with
  | zero => intro e l k _ _ h; exact absurd h (Nat.lt_irrefl k)
  | succ n ih =>
    intro e l k hl h24 h
    rw [sl_uf] at h
    have hA := sl_A_lt e (by omega)
    have hB := sl_B_lt e (by omega)
    by_cases hCe : C e = true
    · rw [if_pos hCe] at h
      by_cases hx : sl_root l 16 (sl_A e) = sl_root l 16 (sl_B e)
      · refine ⟨e, Nat.le_refl e, by omega, hCe, fun f h1 _ => ?_⟩
        rw [← (sl_root_f h1 16 _ hA).2, ← (sl_root_f h1 16 _ hB).2, hx]
      · rw [if_neg hx] at h
        obtain ⟨j, j1, j2, j3, j4⟩ := ih (e + 1) _ k (by rw [List.length_set, hl]) (by omega) h
        refine ⟨j, by omega, by omega, j3, fun f h1 h2 => j4 f ?_ (fun i i1 i2 i3 => h2 i (by omega) i2 i3)⟩
        have ra := sl_root_f h1 16 _ hA
        have rb := sl_root_f h1 16 _ hB
        have he := h2 e (Nat.le_refl e) (by omega) hCe
        intro x hx16
        rw [sl_gs _ _ _ _ (by omega)]
        by_cases ex : x = sl_root l 16 (sl_A e)
        · rw [if_pos ex]
          exact ⟨rb.1, by rw [rb.2, ex, ra.2, he]⟩
        · rw [if_neg ex]
          exact h1 x hx16
    · rw [if_neg hCe] at h
      obtain ⟨j, j1, j2, j3, j4⟩ := ih (e + 1) l k hl (by omega) h
      exact ⟨j, by omega, by omega, j3, fun f h1 h2 => j4 f h1 (fun i i1 i2 i3 => h2 i (by omega) i2 i3)⟩
/-- a part of a loop that closes a ring is the whole loop -/
theorem sl_closed {C : Nat → Bool} {T : Nat} (hT : T ∈ sl_good) (hC : ∀ e, e < 24 → C e = true → T.testBit e = true) (h : 0 < sl_cl C) : ∀ e, e < 24 → C e = T.testBit e := by
  intro g hg
  cases hb : T.testBit g with
  | false =>
    cases hc : C g with
    | false => rfl
    | true => exact absurd (hC g hg hc) (by rw [hb]; decide)
  | true =>
    cases hc : C g with
    | true => rfl
    | false =>
      exfalso
      obtain ⟨j, _, j2, j3, j4⟩ := sl_uf_sep 24 0 (List.range 16) 0 (by rfl) (by omega) h
      have hne : ∀ i, C i = true → i ≠ g := fun i hi e => by rw [e, hc] at hi; exact absurd hi (by decide)
      have hin : ∀ i, i < 24 → C i = true → (T.testBit i && !(i == g)) = true := fun i h24 hi => by
        rw [hC i h24 hi, Bool.true_and, Bool.not_eq_true', beq_eq_false_iff_ne]
        exact hne i hi
      obtain ⟨f, f1, f2⟩ := sl_run_sep 24 0 (List.range 16) (by rfl) (sl_g_cut T hT g hg hb) (fun j h => absurd h (by omega)) j (by omega) (by omega) (by omega) (hin j (by omega) j3)
      exact f2 (j4 f (fun x hx => by rw [sl_rg x hx]; exact ⟨hx, rfl⟩) (fun i _ hi hCi => f1 i hi (hin i (by omega) hCi)))
theorem sl_ct_cg {C C' : Nat → Bool} (h : ∀ j, j < 24 → C j = C' j) (q : Nat) : sl_ct C q = sl_ct C' q := by
  unfold sl_ct
  by_cases hq : q < 24
  · rw [h q hq]
  · rw [decide_eq_false hq]
    rfl
theorem sl_n_cg {C C' : Nat → Bool} (h : ∀ j, j < 24 → C j = C' j) (g : Nat → Nat) (i : Nat) : sl_n C g i = sl_n C' g i := by
  unfold sl_n
  rw [sl_ct_cg h, sl_ct_cg h, sl_ct_cg h, sl_ct_cg h]
theorem sl_uf_cg {C C' : Nat → Bool} : ∀ n e l k, (∀ j, j < e + n → C j = C' j) → sl_uf C n e l k = sl_uf C' n e l k := by
  intro n
  induction n with
  | zero => intro e l k _; rfl
  | succ n ih =>
    intro e l k h
    have h1 : ∀ j, j < e + 1 + n → C j = C' j := fun j hj => h j (by omega)
    rw [sl_uf, sl_uf, h e (by omega), ih (e + 1) l (k + 1) h1, ih (e + 1) _ k h1, ih (e + 1) l k h1]
theorem sl_pcs_cg {C C' : Nat → Bool} (h : ∀ j, j < 24 → C j = C' j) (l : List Nat) : ∀ n p a, sl_pcs C l n p a = sl_pcs C' l n p a := by
  intro n
  induction n with
  | zero => intro p a; rfl
  | succ n ih =>
    intro p a
    rw [sl_pcs, sl_pcs, sl_n_cg h, ih (p + 1) (a + 1), ih (p + 1) a]
theorem sl_mk_cg {C C' : Nat → Bool} : ∀ n, (∀ j, j < n → C j = C' j) → sl_mk C n = sl_mk C' n := by
  intro n
  induction n with
  | zero => intro _; rfl
  | succ n ih =>
    intro h
    rw [sl_mk, sl_mk, h n (by omega), ih (fun j hj => h j (by omega))]
theorem sl_cl_cg {C C' : Nat → Bool} (h : ∀ j, j < 24 → C j = C' j) : sl_cl C = sl_cl C' := by
  unfold sl_cl
  rw [sl_uf_cg 24 0 _ 0 (fun j hj => h j (by omega))]
theorem sl_pp_cg {C C' : Nat → Bool} (h : ∀ j, j < 24 → C j = C' j) : sl_pp C = sl_pp C' := by
  unfold sl_pp
  rw [sl_uf_cg 24 0 _ 0 (fun j hj => h j (by omega)), sl_pcs_cg h]
theorem sl_par4 : ∀ a b c d : Bool, (a.toNat + b.toNat + c.toNat + d.toNat = 0 ∨ a.toNat + b.toNat + c.toNat + d.toNat = 2) → d = Bool.xor (Bool.xor a b) c := by decide
theorem sl_par3 : ∀ a b c : Bool, (a.toNat + b.toNat + c.toNat + 0 = 0 ∨ a.toNat + b.toNat + c.toNat + 0 = 2) → c = Bool.xor a b := by decide
theorem sl_par3m : ∀ a b c : Bool, (a.toNat + b.toNat + c.toNat + 0 = 0 ∨ a.toNat + b.toNat + c.toNat + 0 = 2) → b = Bool.xor a c := by decide
theorem sl_par2 : ∀ a b : Bool, (a.toNat + b.toNat + 0 + 0 = 0 ∨ a.toNat + b.toNat + 0 + 0 = 2) → b = a := by decide
theorem sl_fl_eq {C : Nat → Bool} (hd : ∀ p, p < 16 → sl_n C sl_p p = 0 ∨ sl_n C sl_p p = 2) :
    [C 0, C 1, C 2, C 3, C 4, C 5, C 6, C 7, C 8, C 9, C 10, C 11, C 12, C 13, C 14, C 15, C 16, C 17, C 18, C 19, C 20, C 21, C 22, C 23] = sl_fl (C 0) (C 1) (C 2) (C 3) (C 4) (C 5) (C 6) (C 7) (C 8) := by
  have e12 := sl_par2 (C 0) (C 12) (hd 0 (by decide))
  have e13 := sl_par3 (C 0) (C 1) (C 13) (hd 1 (by decide))
  have e14 := sl_par3 (C 1) (C 2) (C 14) (hd 2 (by decide))
  have e15 := sl_par2 (C 2) (C 15) (hd 3 (by decide))
  have e16 := sl_par3 (C 3) (C 12) (C 16) (hd 4 (by decide))
  have e17 := sl_par4 (C 3) (C 4) (C 13) (C 17) (hd 5 (by decide))
  have e18 := sl_par4 (C 4) (C 5) (C 14) (C 18) (hd 6 (by decide))
  have e19 := sl_par3 (C 5) (C 15) (C 19) (hd 7 (by decide))
  have e20 := sl_par3 (C 6) (C 16) (C 20) (hd 8 (by decide))
  have e21 := sl_par4 (C 6) (C 7) (C 17) (C 21) (hd 9 (by decide))
  have e22 := sl_par4 (C 7) (C 8) (C 18) (C 22) (hd 10 (by decide))
  have e23 := sl_par3 (C 8) (C 19) (C 23) (hd 11 (by decide))
  have e9 := (sl_par2 (C 9) (C 20) (hd 12 (by decide))).symm
  have e10 := sl_par3m (C 9) (C 10) (C 21) (hd 13 (by decide))
  have e11 := sl_par3m (C 10) (C 11) (C 22) (hd 14 (by decide))
  unfold sl_fl
  rw [e11, e10, e9, e23, e22, e21, e20, e19, e18, e17, e16, e15, e14, e13, e12]
theorem sl_get24 (C : Nat → Bool) : ∀ e, e < 24 → [C 0, C 1, C 2, C 3, C 4, C 5, C 6, C 7, C 8, C 9, C 10, C 11, C 12, C 13, C 14, C 15, C 16, C 17, C 18, C 19, C 20, C 21, C 22, C 23].getD e false = C e := by
  intro e he
  have h : e = 0 ∨ e = 1 ∨ e = 2 ∨ e = 3 ∨ e = 4 ∨ e = 5 ∨ e = 6 ∨ e = 7 ∨ e = 8 ∨ e = 9 ∨ e = 10 ∨ e = 11 ∨ e = 12 ∨ e = 13 ∨ e = 14 ∨ e = 15 ∨ e = 16 ∨ e = 17 ∨ e = 18 ∨ e = 19 ∨ e = 20 ∨ e = 21 ∨ e = 22 ∨ e = 23 := by omega
  rcases h with h | h | h | h | h | h | h | h | h | h | h | h | h | h | h | h | h | h | h | h | h | h | h | h <;> (subst h; rfl)
/-- all decided, and nothing wrong at points and pieces: a loop, or nothing -/
theorem sl_leaf {C : Nat → Bool} (hd : ∀ p, p < 16 → sl_n C sl_p p = 0 ∨ sl_n C sl_p p = 2) (hk : sl_cl C = 0 ∨ (sl_cl C ≤ 1 ∧ sl_pp C ≤ 1)) : sl_mk C 24 = 0 ∨ sl_mk C 24 ∈ sl_good := by
  have h := sl_512 (C 0) (C 1) (C 2) (C 3) (C 4) (C 5) (C 6) (C 7) (C 8)
  rw [← sl_fl_eq hd] at h
  have g := sl_get24 C
  generalize [C 0, C 1, C 2, C 3, C 4, C 5, C 6, C 7, C 8, C 9, C 10, C 11, C 12, C 13, C 14, C 15, C 16, C 17, C 18, C 19, C 20, C 21, C 22, C 23] = l at h g
  have g2 : ∀ e, e < 24 → (fun e => l.getD e false) e = C e := g
  have hA : sl_all 16 (fun p => decide (sl_n (fun e => l.getD e false) sl_p p = 0 ∨ sl_n (fun e => l.getD e false) sl_p p = 2)) = true := sl_all_iff.mpr (fun p hp => by
    rw [sl_n_cg g2]
    exact decide_eq_true (hd p hp))
  unfold sl_chk at h
  rw [hA, sl_cl_cg g2, sl_pp_cg g2, sl_mk_cg 24 g2, decide_eq_true hk] at h
  exact of_decide_eq_true h
theorem sl_mk_lt (C : Nat → Bool) : ∀ k, sl_mk C k < 2 ^ k := by
  intro k
  induction k with
  | zero => exact Nat.zero_lt_one
  | succ k ih =>
    rw [sl_mk, Nat.pow_succ]
    split <;> omega
theorem sl_mk_bit (C : Nat → Bool) : ∀ k e, e < k → (sl_mk C k).testBit e = C e := by
  intro k
  induction k with
  | zero => intro e h; omega
  | succ k ih =>
    intro e he
    rw [sl_mk]
    have hl := sl_mk_lt C k
    by_cases hk : e = k
    · subst hk
      cases hc : C e with
      | true => 
        rw [if_pos rfl, Nat.add_comm, Nat.testBit_two_pow_add_eq, Nat.testBit_lt_two_pow hl]
        rfl
      | false =>
        rw [if_neg (by decide), Nat.add_zero, Nat.testBit_lt_two_pow hl]
    · cases hc : C k with
      | true =>
        rw [if_pos rfl, Nat.add_comm, Nat.testBit_two_pow_add_gt (by omega)]
        exact ih e (by omega)
      | false =>
        rw [if_neg (by decide), Nat.add_zero]
        exact ih e (by omega)
theorem sl_ext24 {a b : Nat} (ha : a < 2 ^ 24) (hb : b < 2 ^ 24) (h : ∀ e, e < 24 → a.testBit e = b.testBit e) : a = b := by
  apply Nat.eq_of_testBit_eq
  intro e
  by_cases he : e < 24
  · exact h e he
  · have h2 : 2 ^ 24 ≤ 2 ^ e := Nat.pow_le_pow_right (by omega) (by omega)
    rw [Nat.testBit_lt_two_pow (by omega), Nat.testBit_lt_two_pow (by omega)]
end
section
/-- a loop agrees with what is decided; it answers the clues -/
def sl_cons (s : Nat → Int32) (T : Nat) : Prop := ∀ e, e < 24 → s e = 0 ∨ (s e = 1 ∧ T.testBit e = true) ∨ (s e = 2 ∧ T.testBit e = false)
def sl_clue (c : Nat → Nat) (T : Nat) : Prop := ∀ i, i < 9 → c i = 5 ∨ sl_n T.testBit sl_c i = c i
def sl_ok (c : Nat → Nat) (s : Nat → Int32) (T : Nat) : Bool := sl_all 9 (fun i => decide (c i = 5 ∨ sl_n T.testBit sl_c i = c i)) && sl_all 24 (fun e => decide (s e = 0 ∨ (s e = 1 ∧ T.testBit e = true) ∨ (s e = 2 ∧ T.testBit e = false)))
theorem sl_ok_iff {c : Nat → Nat} {s : Nat → Int32} {T : Nat} : sl_ok c s T = true ↔ sl_clue c T ∧ sl_cons s T := by
  unfold sl_ok
  rw [Bool.and_eq_true, sl_all_iff, sl_all_iff]
  exact ⟨fun h => ⟨fun i hi => of_decide_eq_true (h.1 i hi), fun e he => of_decide_eq_true (h.2 e he)⟩, fun h => ⟨fun i hi => decide_eq_true (h.1 i hi), fun e he => decide_eq_true (h.2 e he)⟩⟩
def sl_sols (c : Nat → Nat) (s : Nat → Int32) : List Nat := sl_good.filter (fun T => sl_ok c s T)
def sl_on (s : Nat → Int32) (v : Int32) : Nat → Bool := fun e => decide (s e = v)
theorem sl_sols_mem {c : Nat → Nat} {s : Nat → Int32} {T : Nat} : T ∈ sl_sols c s ↔ T ∈ sl_good ∧ sl_clue c T ∧ sl_cons s T := by
  unfold sl_sols
  rw [List.mem_filter, sl_ok_iff]
theorem sl_sols_eq {c : Nat → Nat} {s s' : Nat → Int32} (h : ∀ T, T ∈ sl_good → sl_clue c T → (sl_cons s T ↔ sl_cons s' T)) : sl_sols c s = sl_sols c s' := by
  unfold sl_sols
  apply List.filter_congr
  intro T hT
  rw [Bool.eq_iff_iff, sl_ok_iff, sl_ok_iff]
  exact ⟨fun z => ⟨z.1, (h T hT z.1).mp z.2⟩, fun z => ⟨z.1, (h T hT z.1).mpr z.2⟩⟩
theorem sl_sols_nil {c : Nat → Nat} {s : Nat → Int32} (h : ∀ T, T ∈ sl_good → sl_clue c T → ¬ sl_cons s T) : sl_sols c s = [] := by
  unfold sl_sols
  rw [List.filter_eq_nil_iff]
  intro T hT z
  have z2 := sl_ok_iff.mp z
  exact h T hT z2.1 z2.2
theorem sl_sols_le (c : Nat → Nat) (s : Nat → Int32) : (sl_sols c s).length ≤ 213 := by
  have h : (sl_sols c s).length ≤ sl_good.length := List.length_filter_le _ _
  rw [sl_g_213] at h
  exact h
theorem sl_fsplit (p q : Nat → Bool) (l : List Nat) : (l.filter p).Perm (l.filter (fun x => p x && !q x) ++ l.filter (fun x => p x && q x)) := by
  induction l with
  | nil => exact List.Perm.refl _
  | cons x l ih =>
    cases hp : p x with
    | false =>
      rw [List.filter_cons_of_neg (by rw [hp]; decide), List.filter_cons_of_neg (by rw [hp, Bool.false_and]; exact Bool.false_ne_true), List.filter_cons_of_neg (by rw [hp, Bool.false_and]; exact Bool.false_ne_true)]
      exact ih
    | true =>
      cases hq : q x with
      | false =>
        rw [List.filter_cons_of_pos hp, List.filter_cons_of_pos (by rw [hp, hq]; rfl), List.filter_cons_of_neg (by rw [hp, hq]; decide)]
        exact ih.cons x
      | true =>
        rw [List.filter_cons_of_pos hp, List.filter_cons_of_neg (by rw [hp, hq]; decide), List.filter_cons_of_pos (by rw [hp, hq]; rfl)]
        exact (ih.cons x).trans List.perm_middle.symm
theorem sl_cons_1 {s : Nat → Int32} {e T : Nat} (he : e < 24) (h0 : s e = 0) : sl_cons (upd s e 1) T ↔ sl_cons s T ∧ T.testBit e = true := by
  constructor
  · intro h
    constructor
    · intro i hi
      by_cases x : i = e
      · subst x
        exact Or.inl h0
      · have h1 := h i hi
        rw [pk_un x] at h1
        exact h1
    · have h1 := h e he
      rw [pk_us] at h1
      rcases h1 with h1 | h1 | h1
      · exact absurd h1 (by decide)
      · exact h1.2
      · exact absurd h1.1 (by decide)
  · intro h i hi
    by_cases x : i = e
    · subst x
      rw [pk_us]
      exact Or.inr (Or.inl ⟨rfl, h.2⟩)
    · rw [pk_un x]
      exact h.1 i hi
theorem sl_cons_2 {s : Nat → Int32} {e T : Nat} (he : e < 24) (h0 : s e = 0) : sl_cons (upd s e 2) T ↔ sl_cons s T ∧ T.testBit e = false := by
  constructor
  · intro h
    constructor
    · intro i hi
      by_cases x : i = e
      · subst x
        exact Or.inl h0
      · have h1 := h i hi
        rw [pk_un x] at h1
        exact h1
    · have h1 := h e he
      rw [pk_us] at h1
      rcases h1 with h1 | h1 | h1
      · exact absurd h1 (by decide)
      · exact absurd h1.1 (by decide)
      · exact h1.2
  · intro h i hi
    by_cases x : i = e
    · subst x
      rw [pk_us]
      exact Or.inr (Or.inr ⟨rfl, h.2⟩)
    · rw [pk_un x]
      exact h.1 i hi
theorem sl_sols_1 {c : Nat → Nat} {s : Nat → Int32} {e : Nat} (he : e < 24) (h0 : s e = 0) : sl_sols c (upd s e 1) = sl_good.filter (fun T => sl_ok c s T && T.testBit e) := by
  unfold sl_sols
  apply List.filter_congr
  intro T _
  have h := sl_cons_1 (T := T) he h0
  rw [Bool.eq_iff_iff, sl_ok_iff, Bool.and_eq_true, sl_ok_iff, h, and_assoc]
theorem sl_sols_2 {c : Nat → Nat} {s : Nat → Int32} {e : Nat} (he : e < 24) (h0 : s e = 0) : sl_sols c (upd s e 2) = sl_good.filter (fun T => sl_ok c s T && !T.testBit e) := by
  unfold sl_sols
  apply List.filter_congr
  intro T _
  have h := sl_cons_2 (T := T) he h0
  rw [Bool.eq_iff_iff, sl_ok_iff, Bool.and_eq_true, sl_ok_iff, h, and_assoc, Bool.not_eq_true']
theorem sl_sols_split (c : Nat → Nat) {s : Nat → Int32} {e : Nat} (he : e < 24) (h0 : s e = 0) : (sl_sols c s).Perm (sl_sols c (upd s e 2) ++ sl_sols c (upd s e 1)) := by
  rw [sl_sols_1 he h0, sl_sols_2 he h0]
  exact sl_fsplit _ (fun T => T.testBit e) sl_good
theorem sl_sols_len (c : Nat → Nat) {s : Nat → Int32} {e : Nat} (he : e < 24) (h0 : s e = 0) : (sl_sols c s).length = (sl_sols c (upd s e 2)).length + (sl_sols c (upd s e 1)).length := by
  rw [(sl_sols_split c he h0).length_eq, List.length_append]
theorem sl_sols_votes (c : Nat → Nat) {s : Nat → Int32} {e : Nat} (he : e < 24) (h0 : s e = 0) : (sl_sols c s).countP (fun T => T.testBit e) = (sl_sols c (upd s e 1)).length := by
  rw [sl_sols_1 he h0, List.countP_eq_length_filter]
  unfold sl_sols
  rw [List.filter_filter]
  congr 1
  apply List.filter_congr
  intro T _
  exact Bool.and_comm _ _
theorem sl_f1 {p : Nat → Bool} {T : Nat} : ∀ l : List Nat, l.Nodup → T ∈ l → (∀ x, x ∈ l → (p x = true ↔ x = T)) → l.filter p = [T] := by
  intro l
  induction l with
  | nil => intro _ h; exact absurd h List.not_mem_nil
  | cons x l ih =>
    intro hn hT hp
    rw [List.nodup_cons] at hn
    by_cases hx : x = T
    · have h0 : l.filter p = [] := by
        rw [List.filter_eq_nil_iff]
        intro y hy z
        have e : y = T := (hp y (List.mem_cons_of_mem _ hy)).mp z
        exact hn.1 (by rw [hx, ← e]; exact hy)
      rw [List.filter_cons_of_pos ((hp x List.mem_cons_self).mpr hx), h0, hx]
    · rw [List.filter_cons_of_neg (fun z => hx ((hp x List.mem_cons_self).mp z))]
      refine ih hn.2 ?_ (fun y hy => hp y (List.mem_cons_of_mem _ hy))
      rcases List.mem_cons.mp hT with h | h
      · exact absurd h.symm hx
      · exact h
/-- how many edges are decided -/
def sl_cnt (s : Nat → Int32) : Nat → Nat
  | 0 => 0
  | k + 1 => sl_cnt s k + (if s k = 0 then 0 else 1)
theorem sl_cnt_le (s : Nat → Int32) : ∀ k, sl_cnt s k ≤ k := by
  intro k
  induction k with
  | zero => exact Nat.le_refl 0
  | succ k ih =>
    rw [sl_cnt]
    split <;> omega
theorem sl_cnt_lt {s : Nat → Int32} {e : Nat} (h0 : s e = 0) : ∀ k, e < k → sl_cnt s k < k := by
  intro k
  induction k with
  | zero => intro h; omega
  | succ k ih =>
    intro h
    rw [sl_cnt]
    by_cases x : e = k
    · subst x
      rw [if_pos h0]
      have := sl_cnt_le s e
      omega
    · have := ih (by omega)
      split <;> omega
theorem sl_cnt_upd {s : Nat → Int32} {e : Nat} {v : Int32} (h0 : s e = 0) (hv : v ≠ 0) : ∀ k, sl_cnt (upd s e v) k = sl_cnt s k + (if e < k then 1 else 0) := by
  intro k
  induction k with
  | zero => rfl
  | succ k ih =>
    rw [sl_cnt, sl_cnt, ih]
    by_cases x : k = e
    · subst x
      rw [pk_us, if_neg hv, if_pos h0, if_neg (Nat.lt_irrefl k), if_pos (Nat.lt_succ_self k)]
    · rw [pk_un x]
      by_cases y : e < k
      · rw [if_pos y, if_pos (show e < k + 1 by omega)]
        omega
      · rw [if_neg y, if_neg (show ¬ e < k + 1 by omega), Nat.add_zero, Nat.add_zero]
theorem sl_cnt_0 {s : Nat → Int32} : ∀ k, (∀ j, j < k → s j = 0) → sl_cnt s k = 0 := by
  intro k
  induction k with
  | zero => intro _; rfl
  | succ k ih =>
    intro h
    rw [sl_cnt, ih (fun j hj => h j (by omega)), if_pos (h k (by omega))]
def sl_wf (t : Nat) (s : Nat → Int32) : Prop := (∀ e, e < 24 → s e = 0 ∨ s e = 1 ∨ s e = 2) ∧ t = sl_cnt s 24
def sl_ext (t : Nat) (s te : Nat → Int32) (t' : Nat) (s' te' : Nat → Int32) : Prop :=
  t ≤ t' ∧ (∀ k, k < t → te' k = te k) ∧ (∀ e, s' e = s e ∨ (e < 24 ∧ s e = 0 ∧ s' e ≠ 0 ∧ ∃ k, t ≤ k ∧ k < t' ∧ te' k = nI e)) ∧ (∀ k, t ≤ k → k < t' → ∃ e, e < 24 ∧ te' k = nI e ∧ s e = 0)
def sl_snd (c : Nat → Nat) (d : Int32) (s : Nat → Int32) (d' : Int32) (s' : Nat → Int32) : Prop := ∀ T, T ∈ sl_good → sl_clue c T → sl_cons s T → sl_cons s' T ∧ (d = 0 → d' = 0)
def sl_Q (c : Nat → Nat) (t : Nat) (d : Int32) (s te : Nat → Int32) (t' : Nat) (d' : Int32) (s' te' : Nat → Int32) : Prop := sl_wf t' s' ∧ sl_ext t s te t' s' te' ∧ sl_snd c d s d' s'
def sl_R (c : Nat → Nat) (t : Nat) (d m : Int32) (s te : Nat → Int32) (t' : Nat) (d' m' : Int32) (s' te' : Nat → Int32) : Prop := sl_Q c t d s te t' d' s' te' ∧ ((m' = m ∧ s' = s ∧ t' = t) ∨ (m' = 1 ∧ t < t'))
section
variable {c : Nat → Nat} {t t' t1 t2 : Nat} {d d' d1 d2 m m' m1 m2 : Int32} {s te s' te' s1 te1 s2 te2 : Nat → Int32}
theorem sl_ext_refl : sl_ext t s te t s te := ⟨Nat.le_refl t, fun _ _ => rfl, fun _ => Or.inl rfl, fun k h1 h2 => absurd h1 (by omega)⟩
theorem sl_ext_trans (h : sl_ext t s te t1 s1 te1) (g : sl_ext t1 s1 te1 t2 s2 te2) : sl_ext t s te t2 s2 te2 := by
  obtain ⟨ha, hb, hc, hd⟩ := h
  obtain ⟨ga, gb, gc, gd⟩ := g
  refine ⟨by omega, fun k hk => by rw [gb k (by omega), hb k hk], fun e => ?_, fun k k1 k2 => ?_⟩
  · rcases gc e with g1 | ⟨g0, g1, g2, k, g3, g4, g5⟩
    · rcases hc e with h1 | ⟨h0, h1, h2, k, h3, h4, h5⟩
      · exact Or.inl (g1.trans h1)
      · exact Or.inr ⟨h0, h1, by rw [g1]; exact h2, k, h3, by omega, by rw [gb k h4, h5]⟩
    · rcases hc e with h1 | ⟨h0, h1, h2, _⟩
      · exact Or.inr ⟨g0, by rw [← h1, g1], g2, k, by omega, g4, g5⟩
      · exact absurd g1 h2
  · by_cases x : k < t1
    · obtain ⟨e, e1, e2, e3⟩ := hd k k1 x
      exact ⟨e, e1, by rw [gb k x, e2], e3⟩
    · obtain ⟨e, e1, e2, e3⟩ := gd k (by omega) k2
      refine ⟨e, e1, e2, ?_⟩
      rcases hc e with h1 | ⟨_, h1, h2, _⟩
      · rw [← h1, e3]
      · exact h1
theorem sl_ext_one {e : Nat} {v : Int32} (he : e < 24) (h0 : s e = 0) (hv : v ≠ 0) : sl_ext t s te (t + 1) (upd s e v) (upd te t (nI e)) := by
  refine ⟨by omega, fun k hk => pk_un (by omega), fun i => ?_, fun k k1 k2 => ?_⟩
  · by_cases x : i = e
    · subst x
      exact Or.inr ⟨he, h0, by rw [pk_us]; exact hv, t, Nat.le_refl t, by omega, pk_us⟩
    · exact Or.inl (pk_un x)
  · have hk : k = t := by omega
    subst hk
    exact ⟨e, he, pk_us, h0⟩
theorem sl_cons_ext {T : Nat} (h : sl_ext t s te t' s' te') (g : sl_cons s' T) : sl_cons s T := by
  intro e he
  rcases h.2.2.1 e with h1 | ⟨_, h1, _⟩
  · rw [← h1]
    exact g e he
  · exact Or.inl h1
theorem sl_wf_one {e : Nat} {v : Int32} (hw : sl_wf t s) (he : e < 24) (h0 : s e = 0) (hv : v = 1 ∨ v = 2) : sl_wf (t + 1) (upd s e v) := by
  have hv0 : v ≠ 0 := by rcases hv with h | h <;> (rw [h]; decide)
  refine ⟨fun i hi => ?_, ?_⟩
  · by_cases x : i = e
    · subst x
      rw [pk_us]
      exact Or.inr hv
    · rw [pk_un x]
      exact hw.1 i hi
  · rw [sl_cnt_upd h0 hv0, if_pos he, ← hw.2]
theorem sl_wf_lt {e : Nat} (hw : sl_wf t s) (he : e < 24) (h0 : s e = 0) : t < 24 := by
  rw [hw.2]
  exact sl_cnt_lt h0 24 he
theorem sl_wf_le (hw : sl_wf t s) : t ≤ 24 := by
  rw [hw.2]
  exact sl_cnt_le s 24
theorem sl_Q_trans (h : sl_Q c t d s te t1 d1 s1 te1) (g : sl_Q c t1 d1 s1 te1 t2 d2 s2 te2) : sl_Q c t d s te t2 d2 s2 te2 :=
  ⟨g.1, sl_ext_trans h.2.1 g.2.1, fun T hT hc hs => ⟨(g.2.2 T hT hc (h.2.2 T hT hc hs).1).1, fun hd => (g.2.2 T hT hc (h.2.2 T hT hc hs).1).2 ((h.2.2 T hT hc hs).2 hd)⟩⟩
theorem sl_Q_refl (hw : sl_wf t s) : sl_Q c t d s te t d s te := ⟨hw, sl_ext_refl, fun _ _ _ h => ⟨h, id⟩⟩
theorem sl_Q_one {e : Nat} {v : Int32} (hw : sl_wf t s) (he : e < 24) (h0 : s e = 0) (hv : v = 1 ∨ v = 2) (hT : ∀ T, T ∈ sl_good → sl_clue c T → sl_cons s T → (v = 1 → T.testBit e = true) ∧ (v = 2 → T.testBit e = false)) : sl_Q c t d s te (t + 1) d (upd s e v) (upd te t (nI e)) := by
  have hv0 : v ≠ 0 := by rcases hv with h | h <;> (rw [h]; decide)
  refine ⟨sl_wf_one hw he h0 hv, sl_ext_one he h0 hv0, fun T hg hc hs => ⟨?_, id⟩⟩
  rcases hv with h | h
  · subst h
    exact (sl_cons_1 he h0).mpr ⟨hs, (hT T hg hc hs).1 rfl⟩
  · subst h
    exact (sl_cons_2 he h0).mpr ⟨hs, (hT T hg hc hs).2 rfl⟩
theorem sl_R_refl (hw : sl_wf t s) : sl_R c t d m s te t d m s te := ⟨sl_Q_refl hw, Or.inl ⟨rfl, rfl, rfl⟩⟩
theorem sl_R_trans (h : sl_R c t d m s te t1 d1 m1 s1 te1) (g : sl_R c t1 d1 m1 s1 te1 t2 d2 m2 s2 te2) : sl_R c t d m s te t2 d2 m2 s2 te2 := by
  refine ⟨sl_Q_trans h.1 g.1, ?_⟩
  have q1 := h.1.2.1.1
  have q2 := g.1.2.1.1
  rcases g.2 with ⟨g1, g2, g3⟩ | ⟨g1, g2⟩
  · rcases h.2 with ⟨h1, h2, h3⟩ | ⟨h1, h2⟩
    · exact Or.inl ⟨g1.trans h1, g2.trans h2, g3.trans h3⟩
    · exact Or.inr ⟨g1.trans h1, by omega⟩
  · exact Or.inr ⟨g1, by omega⟩
theorem sl_R_one {e : Nat} {v : Int32} (hw : sl_wf t s) (he : e < 24) (h0 : s e = 0) (hv : v = 1 ∨ v = 2) (hT : ∀ T, T ∈ sl_good → sl_clue c T → sl_cons s T → (v = 1 → T.testBit e = true) ∧ (v = 2 → T.testBit e = false)) : sl_R c t d m s te (t + 1) d 1 (upd s e v) (upd te t (nI e)) :=
  ⟨sl_Q_one hw he h0 hv hT, Or.inr ⟨rfl, by omega⟩⟩
theorem sl_R_dead (hw : sl_wf t s) (hT : ∀ T, T ∈ sl_good → sl_clue c T → ¬ sl_cons s T) : sl_R c t d m s te t 1 m s te :=
  ⟨⟨hw, sl_ext_refl, fun T hg hc hs => absurd hs (hT T hg hc)⟩, Or.inl ⟨rfl, rfl, rfl⟩⟩
/-- nothing has moved on the whole way: nothing on its first half -/
theorem sl_R_same (hw : sl_wf t s) (h : sl_R c t d m s te t1 d1 m1 s1 te1) (g : sl_R c t1 d1 m1 s1 te1 t2 d2 m2 s2 te2) (e : s2 = s) : s1 = s ∧ s2 = s1 := by
  have q1 := h.1.2.1.1
  have q2 := g.1.2.1.1
  have w2 := g.1.1.2
  have w := hw.2
  rw [e] at w2
  rcases g.2 with ⟨g1, g2, g3⟩ | ⟨g1, g2⟩
  · exact ⟨by rw [← g2, e], g2⟩
  · omega
theorem sl_sols_Q (h : sl_Q c t d s te t' d' s' te') : sl_sols c s = sl_sols c s' :=
  sl_sols_eq (fun T hT hc => ⟨fun hs => (h.2.2 T hT hc hs).1, fun hs => sl_cons_ext h.2.1 hs⟩)
theorem sl_sols_dead (h : sl_Q c t d s te t' d' s' te') (hd : d = 0) (hd' : d' ≠ 0) : sl_sols c s = [] :=
  sl_sols_nil (fun T hT hc hs => hd' ((h.2.2 T hT hc hs).2 hd))
end
theorem sl_slot {C1 C0 CT : Nat → Bool} {q : Nat} (h : q < 24 → (C1 q = true → CT q = true ∧ C0 q = false) ∧ (C1 q = false → C0 q = false → CT q = false)) :
    sl_ct C1 q ≤ sl_ct CT q ∧ sl_ct CT q ≤ sl_ct C1 q + sl_ct C0 q ∧ (q < 24 → C0 q = true → sl_ct C1 q = 0 ∧ sl_ct C0 q = 1 ∧ (CT q = true → sl_ct CT q = 1) ∧ (CT q = false → sl_ct CT q = 0)) := by
  unfold sl_ct
  by_cases hq : q < 24
  · have h := h hq
    rw [decide_eq_true hq]
    cases h1 : C1 q <;> cases h0 : C0 q <;> cases hT : CT q <;> simp_all
  · rw [decide_eq_false hq]
    exact ⟨Nat.le_refl _, Nat.le_refl _, fun z => absurd z hq⟩
theorem sl_j4 {P : Nat → Prop} (h0 : P 0) (h1 : P 1) (h2 : P 2) (h3 : P 3) : ∀ j, j < 4 → P j := by
  intro j hj
  rcases (show j = 0 ∨ j = 1 ∨ j = 2 ∨ j = 3 by omega) with h | h | h | h <;> (subst h; assumption)
theorem sl_grp {C1 C0 CT : Nat → Bool} (g : Nat → Nat) (i : Nat) (h : ∀ q, q < 24 → (C1 q = true → CT q = true ∧ C0 q = false) ∧ (C1 q = false → C0 q = false → CT q = false)) :
    sl_n C1 g i ≤ sl_n CT g i ∧ sl_n CT g i ≤ sl_n C1 g i + sl_n C0 g i ∧
    (sl_n CT g i = sl_n C1 g i → ∀ j, j < 4 → g (i * 4 + j) < 24 → C0 (g (i * 4 + j)) = true → CT (g (i * 4 + j)) = false) ∧
    (sl_n CT g i = sl_n C1 g i + sl_n C0 g i → ∀ j, j < 4 → g (i * 4 + j) < 24 → C0 (g (i * 4 + j)) = true → CT (g (i * 4 + j)) = true) := by
  unfold sl_n
  have a0 := sl_slot (h (g (i * 4)))
  have a1 := sl_slot (h (g (i * 4 + 1)))
  have a2 := sl_slot (h (g (i * 4 + 2)))
  have a3 := sl_slot (h (g (i * 4 + 3)))
  refine ⟨by omega, by omega, fun hN => sl_j4 ?_ ?_ ?_ ?_, fun hN => sl_j4 ?_ ?_ ?_ ?_⟩
  · intro hq h0
    have b := a0.2.2 hq h0
    cases hc : CT (g (i * 4 + 0)) with
    | false => rfl
    | true => have := b.2.2.1 hc; omega
  · intro hq h0
    have b := a1.2.2 hq h0
    cases hc : CT (g (i * 4 + 1)) with
    | false => rfl
    | true => have := b.2.2.1 hc; omega
  · intro hq h0
    have b := a2.2.2 hq h0
    cases hc : CT (g (i * 4 + 2)) with
    | false => rfl
    | true => have := b.2.2.1 hc; omega
  · intro hq h0
    have b := a3.2.2 hq h0
    cases hc : CT (g (i * 4 + 3)) with
    | false => rfl
    | true => have := b.2.2.1 hc; omega
  · intro hq h0
    have b := a0.2.2 hq h0
    cases hc : CT (g (i * 4 + 0)) with
    | true => rfl
    | false => have := b.2.2.2 hc; omega
  · intro hq h0
    have b := a1.2.2 hq h0
    cases hc : CT (g (i * 4 + 1)) with
    | true => rfl
    | false => have := b.2.2.2 hc; omega
  · intro hq h0
    have b := a2.2.2 hq h0
    cases hc : CT (g (i * 4 + 2)) with
    | true => rfl
    | false => have := b.2.2.2 hc; omega
  · intro hq h0
    have b := a3.2.2 hq h0
    cases hc : CT (g (i * 4 + 3)) with
    | true => rfl
    | false => have := b.2.2.2 hc; omega
theorem sl_grp_s {s : Nat → Int32} {T : Nat} (g : Nat → Nat) (i : Nat) (h : sl_cons s T) :
    sl_n (sl_on s 1) g i ≤ sl_n T.testBit g i ∧ sl_n T.testBit g i ≤ sl_n (sl_on s 1) g i + sl_n (sl_on s 0) g i ∧
    (sl_n T.testBit g i = sl_n (sl_on s 1) g i → ∀ j, j < 4 → g (i * 4 + j) < 24 → s (g (i * 4 + j)) = 0 → T.testBit (g (i * 4 + j)) = false) ∧
    (sl_n T.testBit g i = sl_n (sl_on s 1) g i + sl_n (sl_on s 0) g i → ∀ j, j < 4 → g (i * 4 + j) < 24 → s (g (i * 4 + j)) = 0 → T.testBit (g (i * 4 + j)) = true) := by
  have k := sl_grp (C1 := sl_on s 1) (C0 := sl_on s 0) (CT := T.testBit) g i (fun q hq => ⟨fun h1 => ?_, fun h1 h0 => ?_⟩)
  · exact ⟨k.1, k.2.1, fun hN j hj hq h0 => k.2.2.1 hN j hj hq (decide_eq_true h0), fun hN j hj hq h0 => k.2.2.2 hN j hj hq (decide_eq_true h0)⟩
  · have e1 : s q = 1 := of_decide_eq_true h1
    rcases h q hq with z | z | z
    · rw [e1] at z
      exact absurd z (by decide)
    · exact ⟨z.2, decide_eq_false (by rw [e1]; decide)⟩
    · rw [e1] at z
      exact absurd z.1 (by decide)
  · have e1 : ¬ s q = 1 := of_decide_eq_false h1
    have e0 : ¬ s q = 0 := of_decide_eq_false h0
    rcases h q hq with z | z | z
    · exact absurd z e0
    · exact absurd z.1 e1
    · exact z.2
theorem sl_ct_le (C : Nat → Bool) (q : Nat) : sl_ct C q ≤ 1 := Bool.toNat_le _
theorem sl_n_le (C : Nat → Bool) (g : Nat → Nat) (i : Nat) : sl_n C g i ≤ 4 := by
  unfold sl_n
  have h0 := sl_ct_le C (g (i * 4))
  have h1 := sl_ct_le C (g (i * 4 + 1))
  have h2 := sl_ct_le C (g (i * 4 + 2))
  have h3 := sl_ct_le C (g (i * 4 + 3))
  omega
theorem sl_ct_0 {C : Nat → Bool} {q : Nat} (h : q < 24 → C q = false) : sl_ct C q = 0 := by
  unfold sl_ct
  by_cases hq : q < 24
  · rw [h hq, Bool.and_false]
    rfl
  · rw [decide_eq_false hq]
    rfl
theorem sl_n_0 {s : Nat → Int32} {g : Nat → Nat} {i : Nat} (h : ∀ j, j < 4 → g (i * 4 + j) < 24 → s (g (i * 4 + j)) ≠ 0) : sl_n (sl_on s 0) g i = 0 := by
  unfold sl_n
  rw [show sl_ct (sl_on s 0) (g (i * 4)) = 0 from sl_ct_0 (fun hq => decide_eq_false (h 0 (by omega) hq)), show sl_ct (sl_on s 0) (g (i * 4 + 1)) = 0 from sl_ct_0 (fun hq => decide_eq_false (h 1 (by omega) hq)), show sl_ct (sl_on s 0) (g (i * 4 + 2)) = 0 from sl_ct_0 (fun hq => decide_eq_false (h 2 (by omega) hq)), show sl_ct (sl_on s 0) (g (i * 4 + 3)) = 0 from sl_ct_0 (fun hq => decide_eq_false (h 3 (by omega) hq))]
/-- nothing moves any more -/
def sl_ptok (s : Nat → Int32) (p : Nat) : Prop := sl_n (sl_on s 1) sl_p p ≤ 2 ∧ ¬ (sl_n (sl_on s 1) sl_p p = 1 ∧ sl_n (sl_on s 0) sl_p p = 0) ∧ sl_n (sl_on s 0) sl_p p ≠ 1
def sl_clok (c : Nat → Nat) (s : Nat → Int32) (i : Nat) : Prop := c i = 5 ∨ (sl_n (sl_on s 1) sl_c i ≤ c i ∧ c i ≤ sl_n (sl_on s 1) sl_c i + sl_n (sl_on s 0) sl_c i)
def sl_pcok (s : Nat → Int32) : Prop := sl_cl (sl_on s 1) = 0 ∨ (sl_cl (sl_on s 1) ≤ 1 ∧ sl_pp (sl_on s 1) ≤ 1)
def sl_fix (c : Nat → Nat) (s : Nat → Int32) : Prop := (∀ p, p < 16 → sl_ptok s p) ∧ (∀ i, i < 9 → sl_clok c s i) ∧ sl_pcok s
theorem sl_tabv : ∀ p, p < 12 → ((∀ j, j < 4 → sl_p (p * 4 + j) ≤ p + 12 ∨ sl_p (p * 4 + j) = 24) ∧ (if sl_p (p * 4) = p + 12 then 1 else 0) + (if sl_p (p * 4 + 1) = p + 12 then 1 else 0) + (if sl_p (p * 4 + 2) = p + 12 then 1 else 0) + (if sl_p (p * 4 + 3) = p + 12 then 1 else 0) = 1) := by decide +kernel
theorem sl_ct_v {s : Nat → Int32} {e q : Nat} (he : e < 24) (h0 : s e = 0) (hd : ∀ j, j < e → s j ≠ 0) (hq : q ≤ e ∨ q = 24) : sl_ct (sl_on s 0) q = if q = e then 1 else 0 := by
  by_cases x : q = e
  · subst x
    rw [if_pos rfl]
    unfold sl_ct sl_on
    rw [decide_eq_true he, decide_eq_true h0]
    rfl
  · rw [if_neg x]
    exact sl_ct_0 (fun h24 => decide_eq_false (hd q (by omega)))
/-- the first undecided edge lies level -/
theorem sl_level {c : Nat → Nat} {s : Nat → Int32} {e : Nat} (hf : sl_fix c s) (he : e < 24) (h0 : s e = 0) (hd : ∀ j, j < e → s j ≠ 0) : e < 12 := by
  rcases Nat.lt_or_ge e 12 with h | h
  · exact h
  · exfalso
    have hp := (hf.1 (e - 12) (by omega)).2.2
    have ht := sl_tabv (e - 12) (by omega)
    rw [show e - 12 + 12 = e by omega] at ht
    apply hp
    unfold sl_n
    rw [sl_ct_v he h0 hd (show sl_p ((e - 12) * 4) ≤ e ∨ sl_p ((e - 12) * 4) = 24 from ht.1 0 (by omega)), sl_ct_v he h0 hd (ht.1 1 (by omega)), sl_ct_v he h0 hd (ht.1 2 (by omega)), sl_ct_v he h0 hd (ht.1 3 (by omega))]
    exact ht.2
/-- all is decided -/
theorem sl_sols_leaf {c : Nat → Nat} {s : Nat → Int32} {t : Nat} (hw : sl_wf t s) (hf : sl_fix c s) (hd : ∀ j, j < 24 → s j ≠ 0) : sl_sols c s = if sl_mk (sl_on s 1) 24 = 0 then [] else [sl_mk (sl_on s 1) 24] := by
  have h12 : ∀ j, j < 24 → s j = 1 ∨ s j = 2 := fun j hj => (hw.1 j hj).resolve_left (hd j hj)
  have o0 : ∀ g i, sl_n (sl_on s 0) g i = 0 := fun g i => sl_n_0 (fun j _ hq => hd _ hq)
  have bit : ∀ e, e < 24 → (sl_mk (sl_on s 1) 24).testBit e = sl_on s 1 e := fun e he => sl_mk_bit _ 24 e he
  have uniq : ∀ T, T ∈ sl_good → (sl_cons s T ↔ T = sl_mk (sl_on s 1) 24) := by
    intro T hT
    constructor
    · intro hs
      refine sl_ext24 (sl_g_lt T hT) (sl_mk_lt _ 24) (fun e he => ?_)
      rw [bit e he]
      rcases hs e he with z | z | z
      · exact absurd z (hd e he)
      · rw [z.2]
        exact (decide_eq_true z.1).symm
      · rw [z.2]
        exact (decide_eq_false (by rw [z.1]; decide)).symm
    · intro e i hi
      rw [e, bit i hi]
      rcases h12 i hi with z | z
      · exact Or.inr (Or.inl ⟨z, decide_eq_true z⟩)
      · exact Or.inr (Or.inr ⟨z, decide_eq_false (by rw [z]; decide)⟩)
  have hl := sl_leaf (C := sl_on s 1) (fun p hp => by
    have h := hf.1 p hp
    unfold sl_ptok at h
    rw [o0] at h
    omega) hf.2.2
  by_cases hz : sl_mk (sl_on s 1) 24 = 0
  · rw [if_pos hz]
    refine sl_sols_nil (fun T hT _ hs => ?_)
    have h := (uniq T hT).mp hs
    rw [hz] at h
    rw [h] at hT
    exact sl_g_pos hT
  · rw [if_neg hz]
    have hm := hl.resolve_left hz
    have hcl : sl_clue c (sl_mk (sl_on s 1) 24) := by
      intro i hi
      rcases hf.2.1 i hi with h | h
      · exact Or.inl h
      · rw [o0] at h
        refine Or.inr ?_
        rw [sl_n_cg bit]
        omega
    unfold sl_sols
    refine sl_f1 _ sl_g_nd hm (fun T hT => ?_)
    rw [sl_ok_iff]
    exact ⟨fun h => (uniq T hT).mp h.2, fun h => ⟨by rw [h]; exact hcl, (uniq T hT).mpr h⟩⟩
end
section
def sl_pI (i : Nat) : Int32 := if sl_p i < 24 then nI (sl_p i) else -1
/-- the board -/
def sl_bd (a3 a4 a5 a6 : Nat → Int32) : Prop := (∀ e, e < 24 → a3 e = nI (sl_A e)) ∧ (∀ e, e < 24 → a4 e = nI (sl_B e)) ∧ (∀ i, i < 36 → a5 i = nI (sl_c i)) ∧ (∀ i, i < 64 → a6 i = sl_pI i)
theorem sl_ix (p k : Nat) : nI p * 4 + nI k = nI (p * 4 + k) := by
  rw [show (4 : Int32) = nI 4 from rfl, pk_mul, nI_add]
theorem sl_cx {p k : Nat} (h : p * 4 + k < 2 ^ 31) : (nI p * 4 + nI k).toNatClampNeg = p * 4 + k := by
  rw [sl_ix, nI_clamp h]
def sl_ps (C : Nat → Bool) (g : Nat → Nat) (i : Nat) : Nat → Nat
  | 0 => 0
  | k + 1 => sl_ps C g i k + sl_ct C (g (i * 4 + k))
theorem sl_ps4 (C : Nat → Bool) (g : Nat → Nat) (i : Nat) : sl_ps C g i 4 = sl_n C g i := by
  simp only [sl_ps, sl_n, Nat.add_zero, Nat.zero_add]
theorem sl_ct_t {s : Nat → Int32} {v : Int32} {q : Nat} (hq : q < 24) (h : s q = v) : sl_ct (sl_on s v) q = 1 := by
  unfold sl_ct sl_on
  rw [decide_eq_true hq, decide_eq_true h]
  rfl
section
variable {post : St1 → Prop} {t : Nat} {d m r f : Int32} {a1 a2 a3 a4 a5 a6 s te pc a10 a11 a12 a13 : Nat → Int32}
theorem sl_as {e : Nat} {v : Int32} (he : e < 24) (h0 : s e = 0) (hv : v ≠ 0) (ht : t < 24) (H : post (nI (t + 1), d, 1, r, f, a1, a2, a3, a4, a5, a6, upd s e v, upd te t (nI e), pc, a10, a11, a12, a13)) : wpX_assign post (nI t, d, m, r, f, a1, a2, a3, a4, a5, a6, s, te, pc, a10, a11, a12, a13) (nI e) v := by
  have c1 : (nI e).toNatClampNeg = e := nI_clamp (by omega)
  have c2 : (nI t).toNatClampNeg = t := nI_clamp (by omega)
  unfold wpX_assign
  refine ⟨pk_in e 24 he, br_f ?_ ⟨pk_in e 24 he, br_t ?_ ⟨pk_in e 24 he, nm_r (e' := upd s e v) (by rw [c1]) ⟨pk_in t 24 ht, nm_r (e' := upd te t (nI e)) (by rw [c2]) (nm_r (nI_1 t) H)⟩⟩⟩⟩
  · rw [c1, h0]
    exact fun z => hv z.symm
  · rw [c1]
    exact h0
theorem sl_ca5 {post : Int32 → Prop} {t : Int32} {p : Nat} {v : Int32} (hb : sl_bd a3 a4 a5 a6) (hp : p < 16) (H : post (nI (sl_n (sl_on s v) sl_p p))) : ∀ n k, k + n = 5 → k ≤ 4 → wX_countAt_5 post (nI p) v t d m r f a1 a2 a3 a4 a5 a6 s te pc a10 a11 a12 a13 n (nI (sl_ps (sl_on s v) sl_p p k)) (nI k) := by
  intro n
  induction n with
  | zero => intro k h1 h2; omega
  | succ n ih =>
    intro k h1 h2
    refine pk_le 4 k (fun h => ?_) (fun h => ⟨pk_in (p * 4 + k) 64 (by omega) (sl_ix p k), nm_r (e' := sl_pI (p * 4 + k)) (by rw [sl_cx (by omega), hb.2.2.2 _ (by omega)]) ?_⟩)
    · have e : k = 4 := by omega
      subst e
      rw [sl_ps4]
      exact H
    · have I := ih (k + 1) (by omega) (by omega)
      by_cases hq : sl_p (p * 4 + k) < 24
      · rw [show sl_pI (p * 4 + k) = nI (sl_p (p * 4 + k)) from if_pos hq]
        refine br_f (nI_pos (by omega)) ⟨pk_in _ 24 hq, ?_⟩
        rw [nI_clamp (show sl_p (p * 4 + k) < 2 ^ 31 by omega)]
        refine br_c (fun hs => nm_r (e' := nI (sl_ps (sl_on s v) sl_p p (k + 1))) ?_ (nm_r (nI_1 k) I)) (fun hs => nm_r (nI_1 k) ?_)
        · rw [sl_ps, sl_ct_t hq hs, nI_1]
        · rw [sl_ps, sl_ct_0 (fun _ => decide_eq_false hs), Nat.add_zero] at I
          exact I
      · rw [show sl_pI (p * 4 + k) = -1 from if_neg hq]
        refine br_t (by decide) (nm_r (nI_1 k) ?_)
        rw [sl_ps, sl_ct_0 (fun z => absurd z hq), Nat.add_zero] at I
        exact I
theorem sl_ca {post : Int32 → Prop} {t : Int32} {p : Nat} {v : Int32} (hb : sl_bd a3 a4 a5 a6) (hp : p < 16) (H : post (nI (sl_n (sl_on s v) sl_p p))) : wpX_countAt post (t, d, m, r, f, a1, a2, a3, a4, a5, a6, s, te, pc, a10, a11, a12, a13) (nI p) v :=
  ⟨5, sl_ca5 hb hp H 5 0 (by omega) (by omega)⟩
theorem sl_ci5 {post : Int32 → Prop} {t : Int32} {p : Nat} {v : Int32} (hb : sl_bd a3 a4 a5 a6) (hp : p < 9) (H : post (nI (sl_n (sl_on s v) sl_c p))) : ∀ n k, k + n = 5 → k ≤ 4 → wX_countIn_5 post (nI p) v t d m r f a1 a2 a3 a4 a5 a6 s te pc a10 a11 a12 a13 n (nI (sl_ps (sl_on s v) sl_c p k)) (nI k) := by
  intro n
  induction n with
  | zero => intro k h1 h2; omega
  | succ n ih =>
    intro k h1 h2
    refine pk_le 4 k (fun h => ?_) (fun h => ?_)
    · have e : k = 4 := by omega
      subst e
      rw [sl_ps4]
      exact H
    · have I := ih (k + 1) (by omega) (by omega)
      have hq := sl_c_lt (p * 4 + k) (by omega)
      have ha : a5 (nI p * 4 + nI k).toNatClampNeg = nI (sl_c (p * 4 + k)) := by rw [sl_cx (by omega), hb.2.2.1 _ (by omega)]
      refine ⟨pk_in (p * 4 + k) 36 (by omega) (sl_ix p k), ?_⟩
      rw [ha]
      refine ⟨pk_in _ 24 hq, ?_⟩
      rw [nI_clamp (show sl_c (p * 4 + k) < 2 ^ 31 by omega)]
      refine br_c (fun hs => nm_r (e' := nI (sl_ps (sl_on s v) sl_c p (k + 1))) ?_ (nm_r (nI_1 k) I)) (fun hs => nm_r (nI_1 k) ?_)
      · rw [sl_ps, sl_ct_t hq hs, nI_1]
      · rw [sl_ps, sl_ct_0 (fun _ => decide_eq_false hs), Nat.add_zero] at I
        exact I
theorem sl_ci {post : Int32 → Prop} {t : Int32} {p : Nat} {v : Int32} (hb : sl_bd a3 a4 a5 a6) (hp : p < 9) (H : post (nI (sl_n (sl_on s v) sl_c p))) : wpX_countIn post (t, d, m, r, f, a1, a2, a3, a4, a5, a6, s, te, pc, a10, a11, a12, a13) (nI p) v :=
  ⟨5, sl_ci5 hb hp H 5 0 (by omega) (by omega)⟩
theorem sl_fp2 {c : Nat → Nat} {p t0 : Nat} {v d0 m0 : Int32} {s0 te0 : Nat → Int32} (hb : sl_bd a3 a4 a5 a6) (hp : p < 16) (hv : v = 1 ∨ v = 2)
    (hT : ∀ T, T ∈ sl_good → sl_clue c T → sl_cons s0 T → ∀ j, j < 4 → sl_p (p * 4 + j) < 24 → s0 (sl_p (p * 4 + j)) = 0 → (v = 1 → T.testBit (sl_p (p * 4 + j)) = true) ∧ (v = 2 → T.testBit (sl_p (p * 4 + j)) = false))
    (H : ∀ t d m s te, sl_R c t0 d0 m0 s0 te0 t d m s te → (∀ j, j < 4 → sl_p (p * 4 + j) < 24 → s (sl_p (p * 4 + j)) ≠ 0) → post (nI t, d, m, r, f, a1, a2, a3, a4, a5, a6, s, te, pc, a10, a11, a12, a13)) :
    ∀ n k t d m s te, k + n = 5 → k ≤ 4 → sl_R c t0 d0 m0 s0 te0 t d m s te → (∀ j, j < k → sl_p (p * 4 + j) < 24 → s (sl_p (p * 4 + j)) ≠ 0) → wX_fillPoint_2 post (nI p) v n (nI k) (nI t) d m r f a1 a2 a3 a4 a5 a6 s te pc a10 a11 a12 a13 := by
  have hv0 : v ≠ 0 := by rcases hv with h | h <;> (rw [h]; decide)
  intro n
  induction n with
  | zero => intro k t d m s te h1 h2; omega
  | succ n ih =>
    intro k t d m s te h1 h2 hR hz
    refine pk_le 4 k (fun h => ?_) (fun h => ⟨pk_in (p * 4 + k) 64 (by omega) (sl_ix p k), nm_r (e' := sl_pI (p * 4 + k)) (by rw [sl_cx (by omega), hb.2.2.2 _ (by omega)]) ?_⟩)
    · have e : k = 4 := by omega
      subst e
      exact H t d m s te hR hz
    · by_cases hq : sl_p (p * 4 + k) < 24
      · rw [show sl_pI (p * 4 + k) = nI (sl_p (p * 4 + k)) from if_pos hq]
        refine br_f (nI_pos (by omega)) ⟨pk_in _ 24 hq, ?_⟩
        rw [nI_clamp (show sl_p (p * 4 + k) < 2 ^ 31 by omega)]
        refine br_c (fun hs => ?_) (fun hs => nm_r (nI_1 k) (ih (k + 1) t d m s te (by omega) (by omega) hR (fun j hj hq2 => ?_)))
        · refine sl_as hq hs hv0 (sl_wf_lt hR.1.1 hq hs) ?_
          refine nm_r (nI_1 k) (ih (k + 1) (t + 1) d 1 (upd s (sl_p (p * 4 + k)) v) (upd te t (nI (sl_p (p * 4 + k)))) (by omega) (by omega) (sl_R_trans hR (sl_R_one hR.1.1 hq hs hv (fun T hg hc hs2 => hT T hg hc (sl_cons_ext hR.1.2.1 hs2) k (by omega) hq ?_))) (fun j hj hq2 => ?_))
          · rcases hR.1.2.1.2.2.1 (sl_p (p * 4 + k)) with z | ⟨_, z, _⟩
            · rw [← z, hs]
            · exact z
          · by_cases x : sl_p (p * 4 + j) = sl_p (p * 4 + k)
            · rw [x, pk_us]
              exact hv0
            · rw [pk_un x]
              exact hz j (by have : j ≠ k := fun e => x (by rw [e]); omega) hq2
        · by_cases x : j = k
          · rw [x]
            exact hs
          · exact hz j (by omega) hq2
      · rw [show sl_pI (p * 4 + k) = -1 from if_neg hq]
        refine br_t (by decide) (nm_r (nI_1 k) (ih (k + 1) t d m s te (by omega) (by omega) hR (fun j hj hq2 => ?_)))
        by_cases x : j = k
        · rw [x] at hq2
          exact absurd hq2 hq
        · exact hz j (by omega) hq2
theorem sl_fp {c : Nat → Nat} {p : Nat} {v : Int32} (hb : sl_bd a3 a4 a5 a6) (hp : p < 16) (hv : v = 1 ∨ v = 2) (hw : sl_wf t s)
    (hT : ∀ T, T ∈ sl_good → sl_clue c T → sl_cons s T → ∀ j, j < 4 → sl_p (p * 4 + j) < 24 → s (sl_p (p * 4 + j)) = 0 → (v = 1 → T.testBit (sl_p (p * 4 + j)) = true) ∧ (v = 2 → T.testBit (sl_p (p * 4 + j)) = false))
    (H : ∀ t' d' m' s' te', sl_R c t d m s te t' d' m' s' te' → (∀ j, j < 4 → sl_p (p * 4 + j) < 24 → s' (sl_p (p * 4 + j)) ≠ 0) → post (nI t', d', m', r, f, a1, a2, a3, a4, a5, a6, s', te', pc, a10, a11, a12, a13)) : wpX_fillPoint post (nI t, d, m, r, f, a1, a2, a3, a4, a5, a6, s, te, pc, a10, a11, a12, a13) (nI p) v :=
  ⟨5, sl_fp2 hb hp hv hT H 5 0 t d m s te (by omega) (by omega) (sl_R_refl hw) (fun j hj => absurd hj (by omega))⟩
theorem sl_fc2 {c : Nat → Nat} {p t0 : Nat} {v d0 m0 : Int32} {s0 te0 : Nat → Int32} (hb : sl_bd a3 a4 a5 a6) (hp : p < 9) (hv : v = 1 ∨ v = 2)
    (hT : ∀ T, T ∈ sl_good → sl_clue c T → sl_cons s0 T → ∀ j, j < 4 → sl_c (p * 4 + j) < 24 → s0 (sl_c (p * 4 + j)) = 0 → (v = 1 → T.testBit (sl_c (p * 4 + j)) = true) ∧ (v = 2 → T.testBit (sl_c (p * 4 + j)) = false))
    (H : ∀ t d m s te, sl_R c t0 d0 m0 s0 te0 t d m s te → (∀ j, j < 4 → sl_c (p * 4 + j) < 24 → s (sl_c (p * 4 + j)) ≠ 0) → post (nI t, d, m, r, f, a1, a2, a3, a4, a5, a6, s, te, pc, a10, a11, a12, a13)) :
    ∀ n k t d m s te, k + n = 5 → k ≤ 4 → sl_R c t0 d0 m0 s0 te0 t d m s te → (∀ j, j < k → sl_c (p * 4 + j) < 24 → s (sl_c (p * 4 + j)) ≠ 0) → wX_fillCell_2 post (nI p) v n (nI k) (nI t) d m r f a1 a2 a3 a4 a5 a6 s te pc a10 a11 a12 a13 := by
  have hv0 : v ≠ 0 := by rcases hv with h | h <;> (rw [h]; decide)
  intro n
  induction n with
  | zero => intro k t d m s te h1 h2; omega
  | succ n ih =>
    intro k t d m s te h1 h2 hR hz
    refine pk_le 4 k (fun h => ?_) (fun h => ⟨pk_in (p * 4 + k) 36 (by omega) (sl_ix p k), nm_r (e' := nI (sl_c (p * 4 + k))) (by rw [sl_cx (by omega), hb.2.2.1 _ (by omega)]) ?_⟩)
    · have e : k = 4 := by omega
      subst e
      exact H t d m s te hR hz
    · have hq := sl_c_lt (p * 4 + k) (by omega)
      refine ⟨pk_in _ 24 hq, ?_⟩
      rw [nI_clamp (show sl_c (p * 4 + k) < 2 ^ 31 by omega)]
      refine br_c (fun hs => ?_) (fun hs => nm_r (nI_1 k) (ih (k + 1) t d m s te (by omega) (by omega) hR (fun j hj hq2 => ?_)))
      · refine sl_as hq hs hv0 (sl_wf_lt hR.1.1 hq hs) ?_
        refine nm_r (nI_1 k) (ih (k + 1) (t + 1) d 1 (upd s (sl_c (p * 4 + k)) v) (upd te t (nI (sl_c (p * 4 + k)))) (by omega) (by omega) (sl_R_trans hR (sl_R_one hR.1.1 hq hs hv (fun T hg hc hs2 => hT T hg hc (sl_cons_ext hR.1.2.1 hs2) k (by omega) hq ?_))) (fun j hj hq2 => ?_))
        · rcases hR.1.2.1.2.2.1 (sl_c (p * 4 + k)) with z | ⟨_, z, _⟩
          · rw [← z, hs]
          · exact z
        · by_cases x : sl_c (p * 4 + j) = sl_c (p * 4 + k)
          · rw [x, pk_us]
            exact hv0
          · rw [pk_un x]
            exact hz j (by have : j ≠ k := fun e => x (by rw [e]); omega) hq2
      · by_cases x : j = k
        · rw [x]
          exact hs
        · exact hz j (by omega) hq2
theorem sl_fc {c : Nat → Nat} {p : Nat} {v : Int32} (hb : sl_bd a3 a4 a5 a6) (hp : p < 9) (hv : v = 1 ∨ v = 2) (hw : sl_wf t s)
    (hT : ∀ T, T ∈ sl_good → sl_clue c T → sl_cons s T → ∀ j, j < 4 → sl_c (p * 4 + j) < 24 → s (sl_c (p * 4 + j)) = 0 → (v = 1 → T.testBit (sl_c (p * 4 + j)) = true) ∧ (v = 2 → T.testBit (sl_c (p * 4 + j)) = false))
    (H : ∀ t' d' m' s' te', sl_R c t d m s te t' d' m' s' te' → (∀ j, j < 4 → sl_c (p * 4 + j) < 24 → s' (sl_c (p * 4 + j)) ≠ 0) → post (nI t', d', m', r, f, a1, a2, a3, a4, a5, a6, s', te', pc, a10, a11, a12, a13)) : wpX_fillCell post (nI t, d, m, r, f, a1, a2, a3, a4, a5, a6, s, te, pc, a10, a11, a12, a13) (nI p) v :=
  ⟨5, sl_fc2 hb hp hv hT H 5 0 t d m s te (by omega) (by omega) (sl_R_refl hw) (fun j hj => absurd hj (by omega))⟩
theorem sl_cp36 {c : Nat → Nat} {p : Nat} (hb : sl_bd a3 a4 a5 a6) (hp : p < 16) (hw : sl_wf t s) (h2 : sl_n (sl_on s 1) sl_p p ≤ 2) (h10 : ¬ (sl_n (sl_on s 1) sl_p p = 1 ∧ sl_n (sl_on s 0) sl_p p = 0))
    (H : ∀ t' d' m' s' te', sl_R c t d m s te t' d' m' s' te' → (d' = 0 → s' = s → sl_ptok s p) → post (nI t', d', m', r, f, a1, a2, a3, a4, a5, a6, s', te', pc, a10, a11, a12, a13)) : wX_checkPoint_36 post (nI p) (nI (sl_n (sl_on s 1) sl_p p)) (nI (sl_n (sl_on s 0) sl_p p)) (nI t) d m r f a1 a2 a3 a4 a5 a6 s te pc a10 a11 a12 a13 := by
  have N0 := sl_n_le (sl_on s 0) sl_p p
  have fin : ∀ {t' d' m' s' te'}, sl_R c t d m s te t' d' m' s' te' → (∀ j, j < 4 → sl_p (p * 4 + j) < 24 → s' (sl_p (p * 4 + j)) ≠ 0) → post (nI t', d', m', r, f, a1, a2, a3, a4, a5, a6, s', te', pc, a10, a11, a12, a13) := by
    intro t' d' m' s' te' hR hz
    refine H t' d' m' s' te' hR (fun _ e => ?_)
    subst e
    have o := sl_n_0 hz
    exact ⟨h2, h10, by omega⟩
  unfold wX_checkPoint_36
  refine pk_eq (sl_n (sl_on s 1) sl_p p) 2 (fun h => ?_) (fun h => pk_eq (sl_n (sl_on s 0) sl_p p) 1 (fun h0 => pk_eq (sl_n (sl_on s 1) sl_p p) 1 (fun h1 => ?_) (fun h1 => ?_)) (fun h0 => H _ _ _ _ _ (sl_R_refl hw) (fun _ _ => ⟨h2, h10, h0⟩)))
  · refine sl_fp (c := c) hb hp (Or.inr rfl) hw (fun T hg hc hs j hj hq h0 => ⟨fun z => absurd z (by decide), fun _ => ?_⟩) (fun t' d' m' s' te' hR hz => fin hR hz)
    have k := sl_grp_s sl_p p hs
    have D := sl_g_deg T hg p hp
    exact k.2.2.1 (by omega) j hj hq h0
  · unfold wX_checkPoint_67
    refine sl_fp (c := c) hb hp (Or.inl rfl) hw (fun T hg hc hs j hj hq h0 => ⟨fun _ => ?_, fun z => absurd z (by decide)⟩) (fun t' d' m' s' te' hR hz => fin hR hz)
    have k := sl_grp_s sl_p p hs
    have D := sl_g_deg T hg p hp
    exact k.2.2.2 (by omega) j hj hq h0
  · unfold wX_checkPoint_67
    refine sl_fp (c := c) hb hp (Or.inr rfl) hw (fun T hg hc hs j hj hq h0 => ⟨fun z => absurd z (by decide), fun _ => ?_⟩) (fun t' d' m' s' te' hR hz => fin hR hz)
    have k := sl_grp_s sl_p p hs
    have D := sl_g_deg T hg p hp
    exact k.2.2.1 (by omega) j hj hq h0
theorem sl_cp {c : Nat → Nat} {p : Nat} (hb : sl_bd a3 a4 a5 a6) (hp : p < 16) (hw : sl_wf t s)
    (H : ∀ t' d' m' s' te', sl_R c t d m s te t' d' m' s' te' → (d' = 0 → s' = s → sl_ptok s p) → post (nI t', d', m', r, f, a1, a2, a3, a4, a5, a6, s', te', pc, a10, a11, a12, a13)) : wpX_checkPoint post (nI t, d, m, r, f, a1, a2, a3, a4, a5, a6, s, te, pc, a10, a11, a12, a13) (nI p) := by
  have N1 := sl_n_le (sl_on s 1) sl_p p
  have N0 := sl_n_le (sl_on s 0) sl_p p
  unfold wpX_checkPoint
  refine sl_ca hb hp ?_
  refine sl_ca hb hp ?_
  refine pk_lt 2 (sl_n (sl_on s 1) sl_p p) (fun h => H _ _ _ _ _ (sl_R_dead hw (fun T hg hc hs => ?_)) (fun z => absurd z (by decide))) (fun h => pk_eq (sl_n (sl_on s 1) sl_p p) 1 (fun h1 => pk_eq (sl_n (sl_on s 0) sl_p p) 0 (fun h0 => H _ _ _ _ _ (sl_R_dead hw (fun T hg hc hs => ?_)) (fun z => absurd z (by decide))) (fun h0 => sl_cp36 hb hp hw h (fun z => h0 z.2) H)) (fun h1 => sl_cp36 hb hp hw h (fun z => h1 z.1) H))
  · have k := sl_grp_s sl_p p hs
    have D := sl_g_deg T hg p hp
    omega
  · have k := sl_grp_s sl_p p hs
    have D := sl_g_deg T hg p hp
    omega
theorem sl_cc {c : Nat → Nat} {i : Nat} (hb : sl_bd a3 a4 a5 a6) (hi : i < 9) (hc : a1 i = nI (c i)) (hc5 : c i ≤ 5) (hw : sl_wf t s)
    (H : ∀ t' d' m' s' te', sl_R c t d m s te t' d' m' s' te' → (d' = 0 → s' = s → sl_clok c s i) → post (nI t', d', m', r, f, a1, a2, a3, a4, a5, a6, s', te', pc, a10, a11, a12, a13)) : wpX_checkCell post (nI t, d, m, r, f, a1, a2, a3, a4, a5, a6, s, te, pc, a10, a11, a12, a13) (nI i) := by
  have N1 := sl_n_le (sl_on s 1) sl_c i
  have N0 := sl_n_le (sl_on s 0) sl_c i
  unfold wpX_checkCell
  refine ⟨pk_in i 9 hi, nm_r (e' := nI (c i)) (by rw [nI_clamp (show i < 2 ^ 31 by omega), hc]) (pk_eq (c i) 5 (fun h => H _ _ _ _ _ (sl_R_refl hw) (fun _ _ => Or.inl h)) (fun h => ?_))⟩
  have cl : ∀ T, sl_clue c T → sl_n T.testBit sl_c i = c i := fun T hT => (hT i hi).resolve_left h
  refine sl_ci hb hi ?_
  refine sl_ci hb hi ?_
  refine pk_lt (c i) (sl_n (sl_on s 1) sl_c i) (fun g => H _ _ _ _ _ (sl_R_dead hw (fun T hg hT hs => ?_)) (fun z => absurd z (by decide))) (fun g => pk_le (c i) (sl_n (sl_on s 1) sl_c i + sl_n (sl_on s 0) sl_c i) (fun g2 => pk_eq (sl_n (sl_on s 1) sl_c i) (c i) (fun g3 => ?_) (fun g3 => pk_eq (sl_n (sl_on s 1) sl_c i + sl_n (sl_on s 0) sl_c i) (c i) (fun g4 => ?_) (fun g4 => H _ _ _ _ _ (sl_R_refl hw) (fun _ _ => Or.inr ⟨g, g2⟩)) (hx := nI_add _ _))) (fun g2 => H _ _ _ _ _ (sl_R_dead hw (fun T hg hT hs => ?_)) (fun z => absurd z (by decide))) (hy := nI_add _ _))
  · have k := sl_grp_s sl_c i hs
    have e := cl T hT
    omega
  · refine sl_fc (c := c) hb hi (Or.inr rfl) hw (fun T hg hT hs j hj hq h0 => ⟨fun z => absurd z (by decide), fun _ => ?_⟩) (fun t' d' m' s' te' hR hz => H _ _ _ _ _ hR (fun _ _ => Or.inr ⟨g, g2⟩))
    have k := sl_grp_s sl_c i hs
    have e := cl T hT
    exact k.2.2.1 (by omega) j hj hq h0
  · refine sl_fc (c := c) hb hi (Or.inl rfl) hw (fun T hg hT hs j hj hq h0 => ⟨fun _ => ?_, fun z => absurd z (by decide)⟩) (fun t' d' m' s' te' hR hz => H _ _ _ _ _ hR (fun _ _ => Or.inr ⟨g, g2⟩))
    have k := sl_grp_s sl_c i hs
    have e := cl T hT
    exact k.2.2.2 (by omega) j hj hq h0
  · have k := sl_grp_s sl_c i hs
    have e := cl T hT
    omega
end
end
section
section
variable {post : St1 → Prop} {t : Nat} {d m r f : Int32} {a1 a2 a3 a4 a5 a6 s te pc a10 a11 a12 a13 : Nat → Int32}
/-- the array of pieces holds the list -/
def sl_hl (l : List Nat) (pc : Nat → Int32) : Prop := l.length = 16 ∧ ∀ x, x < 16 → pc x = nI (l.getD x 0) ∧ l.getD x 0 < 16
theorem sl_ro4 {post : Int32 → Prop} {t : Int32} {l : List Nat} (hl : sl_hl l pc) : ∀ n k x, k + n = 17 → k ≤ 16 → x < 16 → post (nI (sl_root l (16 - k) x)) → wX_rootOf_4 post t d m r f a1 a2 a3 a4 a5 a6 s te pc a10 a11 a12 a13 n (nI x) (nI k) := by
  intro n
  induction n with
  | zero => intro k x h1 h2; omega
  | succ n ih =>
    intro k x h1 h2 hx H
    refine pk_le 16 k (fun h => ?_) (fun h => ⟨pk_in x 16 hx, ?_⟩)
    · have e : k = 16 := by omega
      subst e
      exact H
    · have hq := (hl.2 x hx).2
      rw [nI_clamp (show x < 2 ^ 31 by omega), (hl.2 x hx).1]
      rw [show 16 - k = (16 - (k + 1)) + 1 by omega, sl_root] at H
      refine pk_eq (l.getD x 0) x (fun z => ?_) (fun z => ⟨pk_in x 16 hx, nm_e (nm_r (nI_1 k) (ih (k + 1) _ (by omega) (by omega) hq ?_))⟩)
      · rw [if_pos z] at H
        exact H
      · rw [if_neg z] at H
        exact H
theorem sl_ro {post : Int32 → Prop} {t : Int32} {l : List Nat} {x : Nat} (hl : sl_hl l pc) (hx : x < 16) (H : post (nI (sl_root l 16 x))) : wpX_rootOf post (t, d, m, r, f, a1, a2, a3, a4, a5, a6, s, te, pc, a10, a11, a12, a13) (nI x) :=
  ⟨17, sl_ro4 hl 17 0 x (by omega) (by omega) hx H⟩
theorem sl_hc {post : Int32 → Prop} {t : Int32} {p : Nat} (hb : sl_bd a3 a4 a5 a6) (hp : p < 16) (H0 : sl_n (sl_on s 1) sl_p p = 0 → post 0) (H1 : 0 < sl_n (sl_on s 1) sl_p p → post 1) : wpX_hasChosen post (t, d, m, r, f, a1, a2, a3, a4, a5, a6, s, te, pc, a10, a11, a12, a13) (nI p) := by
  have N1 := sl_n_le (sl_on s 1) sl_p p
  unfold wpX_hasChosen
  refine sl_ca hb hp ?_
  exact pk_le (sl_n (sl_on s 1) sl_p p) 0 (fun h => H0 (by omega)) (fun h => H1 h)
theorem sl_157 {c : Nat → Nat} {t0 : Nat} {d0 m0 : Int32} {s0 te0 : Nat → Int32}
    (hT : ∀ T, T ∈ sl_good → sl_clue c T → sl_cons s0 T → ∀ e, e < 24 → s0 e = 0 → T.testBit e = false)
    (H : ∀ t d m s te, sl_R c t0 d0 m0 s0 te0 t d m s te → post (nI t, d, m, r, f, a1, a2, a3, a4, a5, a6, s, te, pc, a10, a11, a12, a13)) :
    ∀ n k t d m s te, k + n = 25 → k ≤ 24 → sl_R c t0 d0 m0 s0 te0 t d m s te → wX_checkPieces_157 post n (nI k) (nI t) d m r f a1 a2 a3 a4 a5 a6 s te pc a10 a11 a12 a13 := by
  intro n
  induction n with
  | zero => intro k t d m s te h1 h2; omega
  | succ n ih =>
    intro k t d m s te h1 h2 hR
    refine pk_le 24 k (fun h => H t d m s te hR) (fun h => ⟨pk_in k 24 (by omega), ?_⟩)
    rw [nI_clamp (show k < 2 ^ 31 by omega)]
    refine br_c (fun hs => ?_) (fun hs => nm_r (nI_1 k) (ih (k + 1) t d m s te (by omega) (by omega) hR))
    refine sl_as (by omega) hs (by decide) (sl_wf_lt hR.1.1 (by omega) hs) ?_
    refine nm_r (nI_1 k) (ih (k + 1) (t + 1) d 1 (upd s k 2) (upd te t (nI k)) (by omega) (by omega) (sl_R_trans hR (sl_R_one hR.1.1 (by omega) hs (Or.inr rfl) (fun T hg hc hs2 => ⟨fun z => absurd z (by decide), fun _ => hT T hg hc (sl_cons_ext hR.1.2.1 hs2) k (by omega) ?_⟩))))
    rcases hR.1.2.1.2.2.1 k with z | ⟨_, z, _⟩
    · rw [← z, hs]
    · exact z
theorem sl_97 {l : List Nat} {K tot : Nat} (hb : sl_bd a3 a4 a5 a6) (hl : sl_hl l pc) (hK : K ≤ 24) (H0 : K = 0 → post (nI t, d, m, r, f, a1, a2, a3, a4, a5, a6, s, te, pc, a10, a11, a12, a13)) (H1 : K ≠ 0 → (1 < K ∨ 1 < tot) → post (nI t, 1, m, r, f, a1, a2, a3, a4, a5, a6, s, te, pc, a10, a11, a12, a13))
    (H2 : K = 1 → tot ≤ 1 → ∃ fu, wX_checkPieces_157 post fu 0 (nI t) d m r f a1 a2 a3 a4 a5 a6 s te pc a10 a11 a12 a13) :
    ∀ n k a, k + n = 17 → k ≤ 16 → a ≤ k → sl_pcs (sl_on s 1) l (16 - k) k a = tot → wX_checkPieces_97 post (nI K) (nI t) d m r f a1 a2 a3 a4 a5 a6 s te pc a10 a11 a12 a13 n (nI a) (nI k) := by
  intro n
  induction n with
  | zero => intro k a h1 h2; omega
  | succ n ih =>
    intro k a h1 h2 ha ht
    refine pk_le 16 k (fun h => ?_) (fun h => ⟨pk_in k 16 (by omega), ?_⟩)
    · have e : k = 16 := by omega
      subst e
      have e2 : a = tot := ht
      subst e2
      exact pk_eq K 0 (fun z => H0 z) (fun z => pk_lt 1 K (fun y => H1 z (Or.inl y)) (fun y => pk_le a 1 (fun w => H2 (by omega) w) (fun w => H1 z (Or.inr w))))
    · have hk : k < 16 := by omega
      rw [nI_clamp (show k < 2 ^ 31 by omega), (hl.2 k hk).1]
      have hq := (hl.2 k hk).2
      rw [show 16 - k = (16 - (k + 1)) + 1 by omega, sl_pcs] at ht
      refine pk_eq (l.getD k 0) k (fun z => ?_) (fun z => nm_r (nI_1 k) (ih (k + 1) a (by omega) (by omega) (by omega) ?_))
      · refine sl_hc hb hk (fun w => ?_) (fun w => ?_)
        · rw [if_neg (fun y => by omega)] at ht
          exact br_t rfl (nm_r (nI_1 k) (ih (k + 1) a (by omega) (by omega) (by omega) ht))
        · rw [if_pos ⟨z, w⟩] at ht
          exact br_f (by decide) (nm_r (nI_1 a) (nm_r (nI_1 k) (ih (k + 1) (a + 1) (by omega) (by omega) (by omega) ht)))
      · rw [if_neg (fun y => z y.1)] at ht
        exact ht
theorem sl_27 {x2 : Int32} {t : Int32} {lf : List Nat} {K : Nat} (hb : sl_bd a3 a4 a5 a6)
    (H : ∀ pc, sl_hl lf pc → K ≤ 24 → ∃ fu, wX_checkPieces_97 post (nI K) t d m r f a1 a2 a3 a4 a5 a6 s te pc a10 a11 a12 a13 fu x2 0) :
    ∀ n e k l pc, e + n = 25 → e ≤ 24 → k ≤ e → sl_hl l pc → sl_uf (sl_on s 1) (24 - e) e l k = (lf, K) → wX_checkPieces_27 post x2 t d m r f n (nI k) (nI e) a1 a2 a3 a4 a5 a6 s te pc a10 a11 a12 a13 := by
  intro n
  induction n with
  | zero => intro e k l pc h1 h2; omega
  | succ n ih =>
    intro e k l pc h1 h2 hk hl hu
    refine pk_le 24 e (fun h => ?_) (fun h => ⟨pk_in e 24 (by omega), ?_⟩)
    · have e2 : e = 24 := by omega
      subst e2
      have e3 : (l, k) = (lf, K) := hu
      rw [← (Prod.mk.inj e3).1, ← (Prod.mk.inj e3).2] at H
      exact H pc hl hk
    · have he : e < 24 := by omega
      have ha := sl_A_lt e he
      have hB := sl_B_lt e he
      have hl16 : ∀ x, x < 16 → l.getD x 0 < 16 := fun x hx => (hl.2 x hx).2
      have hra := sl_root_lt hl16 16 _ ha
      have hrb := sl_root_lt hl16 16 _ hB
      rw [show 24 - e = (24 - (e + 1)) + 1 by omega, sl_uf] at hu
      rw [nI_clamp (show e < 2 ^ 31 by omega)]
      refine br_c (fun hs => ⟨pk_in e 24 he, ?_⟩) (fun hs => nm_r (nI_1 e) (ih (e + 1) k l pc (by omega) (by omega) (by omega) hl ?_))
      · rw [if_pos (show sl_on s 1 e = true from decide_eq_true hs)] at hu
        rw [hb.1 e he]
        refine sl_ro hl ha ⟨pk_in e 24 he, ?_⟩
        rw [hb.2.1 e he]
        refine sl_ro hl hB ?_
        refine pk_eq (sl_root l 16 (sl_A e)) (sl_root l 16 (sl_B e)) (fun z => nm_r (nI_1 k) (nm_r (nI_1 e) (ih (e + 1) (k + 1) l pc (by omega) (by omega) (by omega) hl ?_))) (fun z => ⟨pk_in _ 16 hra, nm_r (e' := upd pc (sl_root l 16 (sl_A e)) (nI (sl_root l 16 (sl_B e)))) (by rw [nI_clamp (show sl_root l 16 (sl_A e) < 2 ^ 31 by omega)]) (nm_r (nI_1 e) (ih (e + 1) k (l.set (sl_root l 16 (sl_A e)) (sl_root l 16 (sl_B e))) _ (by omega) (by omega) (by omega) ⟨by rw [List.length_set, hl.1], fun x hx => ?_⟩ ?_))⟩)
        · rw [if_pos z] at hu
          exact hu
        · rw [sl_gs _ _ _ _ (by rw [hl.1]; exact hra)]
          by_cases y : x = sl_root l 16 (sl_A e)
          · rw [if_pos y, y, pk_us]
            exact ⟨rfl, hrb⟩
          · rw [if_neg y, pk_un y]
            exact hl.2 x hx
        · rw [if_neg z] at hu
          exact hu
      · rw [if_neg (show ¬ sl_on s 1 e = true from fun y => hs (of_decide_eq_true y))] at hu
        exact hu
theorem sl_6 {x1 x2 : Int32} {t : Int32} (H : ∀ pc, sl_hl (List.range 16) pc → ∃ fu, wX_checkPieces_27 post x2 t d m r f fu x1 0 a1 a2 a3 a4 a5 a6 s te pc a10 a11 a12 a13) :
    ∀ n k pc, k + n = 17 → k ≤ 16 → (∀ j, j < k → pc j = nI j) → wX_checkPieces_6 post x1 x2 t d m r f n (nI k) a1 a2 a3 a4 a5 a6 s te pc a10 a11 a12 a13 := by
  intro n
  induction n with
  | zero => intro k pc h1 h2; omega
  | succ n ih =>
    intro k pc h1 h2 hz
    refine pk_le 16 k (fun h => H pc ⟨by rfl, fun x hx => ?_⟩) (fun h => ⟨pk_in k 16 (by omega), nm_r (e' := upd pc k (nI k)) (by rw [nI_clamp (show k < 2 ^ 31 by omega)]) (nm_r (nI_1 k) (ih (k + 1) _ (by omega) (by omega) (fun j hj => ?_)))⟩)
    · rw [sl_rg x hx]
      exact ⟨hz x (by omega), hx⟩
    · by_cases y : j = k
      · rw [y, pk_us]
      · rw [pk_un y]
        exact hz j (by omega)
theorem sl_cpc {c : Nat → Nat} (hb : sl_bd a3 a4 a5 a6) (hw : sl_wf t s)
    (H : ∀ t' d' m' s' te' pc', sl_R c t d m s te t' d' m' s' te' → (d' = 0 → s' = s → sl_pcok s) → post (nI t', d', m', r, f, a1, a2, a3, a4, a5, a6, s', te', pc', a10, a11, a12, a13)) : wpX_checkPieces post (nI t, d, m, r, f, a1, a2, a3, a4, a5, a6, s, te, pc, a10, a11, a12, a13) := by
  have hC : ∀ T, sl_cons s T → ∀ e, e < 24 → sl_on s 1 e = true → T.testBit e = true := by
    intro T hs e he h
    have h1 : s e = 1 := of_decide_eq_true h
    rcases hs e he with z | z | z
    · rw [h1] at z
      exact absurd z (by decide)
    · exact z.2
    · rw [h1] at z
      exact absurd z.1 (by decide)
  have hU : sl_uf (sl_on s 1) 24 0 (List.range 16) 0 = ((sl_uf (sl_on s 1) 24 0 (List.range 16) 0).1, sl_cl (sl_on s 1)) := rfl
  refine ⟨17, sl_6 (fun pc hl => ⟨25, sl_27 hb (fun pc hl hK => ⟨17, sl_97 (tot := sl_pp (sl_on s 1)) hb hl hK (fun h => ?_) (fun h h2 => ?_) (fun h h2 => ⟨25, sl_157 (c := c) (fun T hg hc hs e he h0 => ?_) (fun t' d' m' s' te' hR => ?_) 25 0 t d m s te (by omega) (by omega) (sl_R_refl hw)⟩) 17 0 0 (by omega) (by omega) (by omega) rfl⟩) 25 0 0 (List.range 16) pc (by omega) (by omega) (by omega) hl hU⟩) 17 0 pc (by omega) (by omega) (fun j hj => absurd hj (by omega))⟩
  · exact H _ _ _ _ _ _ (sl_R_refl hw) (fun _ _ => Or.inl h)
  · refine H _ _ _ _ _ _ (sl_R_dead hw (fun T hg hc hs => ?_)) (fun z => absurd z (by decide))
    have e := sl_closed hg (hC T hs) (by omega)
    have g := sl_g_uf T hg
    rw [← sl_cl_cg e, ← sl_pp_cg e] at g
    omega
  · have e2 := sl_closed hg (hC T hs) (by omega) e he
    rw [← e2]
    exact decide_eq_false (by rw [h0]; decide)
  · exact H _ _ _ _ _ _ hR (fun _ _ => Or.inr ⟨by omega, h2⟩)
end
end
section
section
variable {post : St1 → Prop} {J : Int32 → Int32 → Int32 → Int32 → Int32 → Int32 → (Nat → Int32) → (Nat → Int32) → (Nat → Int32) → (Nat → Int32) → (Nat → Int32) → (Nat → Int32) → (Nat → Int32) → (Nat → Int32) → (Nat → Int32) → (Nat → Int32) → (Nat → Int32) → (Nat → Int32) → (Nat → Int32) → Prop} {c : Nat → Nat} {x t t0 : Nat} {d d0 m m0 r f : Int32} {a1 a2 a3 a4 a5 a6 s te pc a10 a11 a12 a13 s0 te0 : Nat → Int32}
theorem sl_84 (hb : sl_bd a3 a4 a5 a6) (hw : sl_wf t0 s0) (hR : sl_R c t0 d0 m0 s0 te0 t d m s te) (hP : d = 0 → s = s0 → (∀ p, p < 16 → sl_ptok s0 p) ∧ (∀ i, i < 9 → sl_clok c s0 i))
    (H : ∀ t d m s te pc, sl_R c t0 d0 m0 s0 te0 t d m s te → (d = 0 → s = s0 → sl_fix c s0) → J (nI (x + 1)) (nI t) d m r f a1 a2 a3 a4 a5 a6 s te pc a10 a11 a12 a13) : wX_propagate_84 post J (nI x) (nI t) d m r f a1 a2 a3 a4 a5 a6 s te pc a10 a11 a12 a13 := by
  unfold wX_propagate_84
  refine br_c (fun hd => sl_cpc (c := c) hb hR.1.1 (fun t' d' m' s' te' pc' hR2 hk => nm_r (nI_1 x) (H t' d' m' s' te' pc' (sl_R_trans hR hR2) (fun z e => ?_)))) (fun hd => nm_r (nI_1 x) (H t d m s te pc hR (fun z => absurd z hd)))
  obtain ⟨e1, e2⟩ := sl_R_same hw hR hR2 e
  have h1 := hP hd e1
  have h2 := hk z e2
  rw [e1] at h2
  exact ⟨h1.1, h1.2, h2⟩
theorem sl_60 (hb : sl_bd a3 a4 a5 a6) (hc : ∀ i, i < 9 → a1 i = nI (c i) ∧ c i ≤ 5) (hw : sl_wf t0 s0)
    (H : ∀ t d m s te pc, sl_R c t0 d0 m0 s0 te0 t d m s te → (d = 0 → s = s0 → sl_fix c s0) → J (nI (x + 1)) (nI t) d m r f a1 a2 a3 a4 a5 a6 s te pc a10 a11 a12 a13) :
    ∀ n i t d m s te, i + n = 10 → i ≤ 9 → sl_R c t0 d0 m0 s0 te0 t d m s te → (d = 0 → s = s0 → (∀ p, p < 16 → sl_ptok s0 p) ∧ (∀ j, j < i → sl_clok c s0 j)) → wX_propagate_60 post J (nI x) n (nI i) (nI t) d m r f a1 a2 a3 a4 a5 a6 s te pc a10 a11 a12 a13 := by
  intro n
  induction n with
  | zero => intro i t d m s te h1 h2; omega
  | succ n ih =>
    intro i t d m s te h1 h2 hR hP
    refine pk_le 9 i (fun h => ?_) (fun h => br_c (fun hd => sl_cc (c := c) hb (by omega) (hc i (by omega)).1 (hc i (by omega)).2 hR.1.1 (fun t' d' m' s' te' hR2 hk => nm_r (nI_1 i) (ih (i + 1) t' d' m' s' te' (by omega) (by omega) (sl_R_trans hR hR2) (fun z e => ?_)))) (fun hd => sl_84 hb hw hR (fun z => absurd z hd) H))
    · have e : i = 9 := by omega
      subst e
      exact sl_84 hb hw hR hP H
    · obtain ⟨e1, e2⟩ := sl_R_same hw hR hR2 e
      have g1 := hP hd e1
      have g2 := hk z e2
      rw [e1] at g2
      refine ⟨g1.1, fun j hj => ?_⟩
      by_cases y : j = i
      · rw [y]
        exact g2
      · exact g1.2 j (by omega)
theorem sl_34 (hb : sl_bd a3 a4 a5 a6) (hc : ∀ i, i < 9 → a1 i = nI (c i) ∧ c i ≤ 5) (hw : sl_wf t0 s0)
    (H : ∀ t d m s te pc, sl_R c t0 d0 m0 s0 te0 t d m s te → (d = 0 → s = s0 → sl_fix c s0) → J (nI (x + 1)) (nI t) d m r f a1 a2 a3 a4 a5 a6 s te pc a10 a11 a12 a13) :
    ∀ n p t d m s te, p + n = 17 → p ≤ 16 → sl_R c t0 d0 m0 s0 te0 t d m s te → (d = 0 → s = s0 → ∀ j, j < p → sl_ptok s0 j) → wX_propagate_34 post J (nI x) n (nI p) (nI t) d m r f a1 a2 a3 a4 a5 a6 s te pc a10 a11 a12 a13 := by
  intro n
  induction n with
  | zero => intro i t d m s te h1 h2; omega
  | succ n ih =>
    intro p t d m s te h1 h2 hR hP
    refine pk_le 16 p (fun h => ?_) (fun h => br_c (fun hd => sl_cp (c := c) hb (by omega) hR.1.1 (fun t' d' m' s' te' hR2 hk => nm_r (nI_1 p) (ih (p + 1) t' d' m' s' te' (by omega) (by omega) (sl_R_trans hR hR2) (fun z e => ?_)))) (fun hd => ⟨10, sl_60 hb hc hw H 10 0 t d m s te (by omega) (by omega) hR (fun z => absurd z hd)⟩))
    · have e : p = 16 := by omega
      subst e
      exact ⟨10, sl_60 hb hc hw H 10 0 t d m s te (by omega) (by omega) hR (fun z e => ⟨hP z e, fun j hj => absurd hj (by omega)⟩)⟩
    · obtain ⟨e1, e2⟩ := sl_R_same hw hR hR2 e
      have g1 := hP hd e1
      have g2 := hk z e2
      rw [e1] at g2
      intro j hj
      by_cases y : j = p
      · rw [y]
        exact g2
      · exact g1 j (by omega)
theorem sl_pr7 (hb : sl_bd a3 a4 a5 a6) (hc : ∀ i, i < 9 → a1 i = nI (c i) ∧ c i ≤ 5)
    (H : ∀ t d m s te pc, sl_Q c t0 d0 s0 te0 t d s te → (d = 0 → sl_fix c s) → post (nI t, d, m, r, f, a1, a2, a3, a4, a5, a6, s, te, pc, a10, a11, a12, a13)) :
    ∀ n k t d m s te pc, k + n = 27 → sl_Q c t0 d0 s0 te0 t d s te → ((m = 1 ∧ k ≤ t) ∨ (m = 0 ∧ k ≤ 25 ∧ (d = 0 → sl_fix c s))) → wX_propagate_7 post n (nI k) (nI t) d m r f a1 a2 a3 a4 a5 a6 s te pc a10 a11 a12 a13 := by
  intro n
  induction n with
  | zero =>
    intro k t d m s te pc h1 hQ hm
    have := sl_wf_le hQ.1
    omega
  | succ n ih =>
    intro k t d m s te pc h1 hQ hm
    have h24 := sl_wf_le hQ.1
    refine pk_le 26 k (fun h => absurd h (by omega)) (fun _ => ?_)
    rcases hm with ⟨hm, hk⟩ | ⟨hm, hk, hf⟩
    · refine br_f (by rw [hm]; decide) (br_c (fun hd => ⟨17, sl_34 (t0 := t) (d0 := d) (m0 := 0) (s0 := s) (te0 := te) (c := c) hb hc hQ.1 (fun t' d' m' s' te' pc' hR hfix => ih (k + 1) t' d' m' s' te' pc' (by omega) (sl_Q_trans hQ hR.1) ?_) 17 0 t d 0 s te (by omega) (by omega) (sl_R_refl hQ.1) (fun _ _ j hj => absurd hj (by omega))⟩) (fun hd => H t d m s te pc hQ (fun z => absurd z hd)))
      rcases hR.2 with ⟨g1, g2, g3⟩ | ⟨g1, g2⟩
      · exact Or.inr ⟨g1, by omega, fun z => by rw [g2]; exact hfix z g2⟩
      · exact Or.inl ⟨g1, by omega⟩
    · exact br_t hm (H t d m s te pc hQ hf)
theorem sl_pr (hb : sl_bd a3 a4 a5 a6) (hc : ∀ i, i < 9 → a1 i = nI (c i) ∧ c i ≤ 5) (hw : sl_wf t s)
    (H : ∀ t' d' m' s' te' pc', sl_Q c t d s te t' d' s' te' → (d' = 0 → sl_fix c s') → post (nI t', d', m', r, f, a1, a2, a3, a4, a5, a6, s', te', pc', a10, a11, a12, a13)) : wpX_propagate post (nI t, d, m, r, f, a1, a2, a3, a4, a5, a6, s, te, pc, a10, a11, a12, a13) :=
  ⟨27, sl_pr7 hb hc H 27 0 t d 1 s te pc (by omega) (sl_Q_refl hw) (Or.inl ⟨rfl, by omega⟩)⟩
end
end
section
theorem sl_nor (a b : Nat) : nI a ||| nI b = nI (a ||| b) := by
  apply Int32.toBitVec_inj.1
  show BitVec.ofNat 32 a ||| BitVec.ofNat 32 b = BitVec.ofNat 32 (a ||| b)
  apply BitVec.eq_of_getLsbD_eq
  intro i hi
  simp [BitVec.getLsbD_ofNat, hi]
theorem sl_sh1 : ∀ e, e < 24 → (1 : Int32) <<< (nI e &&& 31) = nI (2 ^ e) := by decide +kernel
theorem sl_or {a e : Nat} (he : e < 24) (ha : a < 2 ^ e) : nI a ||| ((1 : Int32) <<< (nI e &&& 31)) = nI (a + 2 ^ e) := by
  rw [sl_sh1 e he, sl_nor]
  have h := Nat.two_pow_add_eq_or_of_lt ha 1
  rw [Nat.mul_one] at h
  rw [Nat.or_comm, ← h, Nat.add_comm]
/-- the loops found so far -/
def sl_kp (f : Int32) (a13 : Nat → Int32) (Ls : List Nat) : Prop := f = nI Ls.length ∧ ∀ i, i < Ls.length → a13 i = nI (Ls.getD i 0)
theorem sl_kp_add {a13 : Nat → Int32} {Ls : List Nat} {f : Int32} {T : Nat} (h : sl_kp f a13 Ls) : sl_kp (nI (Ls.length + 1)) (upd a13 Ls.length (nI T)) (Ls ++ [T]) := by
  refine ⟨by rw [List.length_append]; rfl, fun i hi => ?_⟩
  rw [List.length_append] at hi
  have hi2 : i < Ls.length + 1 := hi
  by_cases e : i = Ls.length
  · rw [e, pk_us, List.getD_eq_getElem?_getD, List.getElem?_append_right (Nat.le_refl _), Nat.sub_self]
    rfl
  · rw [pk_un e, h.2 i (by omega), List.getD_eq_getElem?_getD, List.getD_eq_getElem?_getD, List.getElem?_append_left (by omega)]
section
variable {post : St1 → Prop} {c : Nat → Nat} {x t t0 fN : Nat} {d m r f : Int32} {a1 a2 a3 a4 a5 a6 s te pc a10 a11 a12 a13 s0 te0 : Nat → Int32}
theorem sl_kl4 {t : Int32} (hf : fN < 256) (H0 : sl_mk (sl_on s 1) 24 = 0 → post (t, d, m, r, nI fN, a1, a2, a3, a4, a5, a6, s, te, pc, a10, a11, a12, a13)) (H1 : sl_mk (sl_on s 1) 24 ≠ 0 → post (t, d, m, r, nI (fN + 1), a1, a2, a3, a4, a5, a6, s, te, pc, a10, a11, a12, upd a13 fN (nI (sl_mk (sl_on s 1) 24)))) :
    ∀ n e, e + n = 25 → e ≤ 24 → wX_keepLoop_4 post t d m r (nI fN) a1 a2 a3 a4 a5 a6 s te pc a10 a11 a12 a13 n (nI (sl_mk (sl_on s 1) e)) (nI e) := by
  intro n
  induction n with
  | zero => intro e h1 h2; omega
  | succ n ih =>
    intro e h1 h2
    have hlt := sl_mk_lt (sl_on s 1) e
    refine pk_le 24 e (fun h => ?_) (fun h => ⟨pk_in e 24 (by omega), ?_⟩)
    · have e2 : e = 24 := by omega
      subst e2
      have hlt2 : sl_mk (sl_on s 1) 24 < 2 ^ 31 := by omega
      exact pk_eq (sl_mk (sl_on s 1) 24) 0 (fun z => H0 z) (fun z => pk_lt fN 256 (fun _ => ⟨pk_in fN 256 hf, nm_r (e' := upd a13 fN (nI (sl_mk (sl_on s 1) 24))) (by rw [nI_clamp (show fN < 2 ^ 31 by omega)]) (nm_r (nI_1 fN) (H1 z))⟩) (fun y => absurd y (by omega)))
    · have he : e < 24 := by omega
      have I := ih (e + 1) (by omega) (by omega)
      rw [nI_clamp (show e < 2 ^ 31 by omega)]
      refine br_c (fun hs => nm_r (e' := nI (sl_mk (sl_on s 1) (e + 1))) ?_ (nm_r (nI_1 e) I)) (fun hs => nm_r (nI_1 e) ?_)
      · rw [sl_or he hlt, sl_mk, if_pos (show sl_on s 1 e = true from decide_eq_true hs)]
      · rw [sl_mk, if_neg (show ¬ sl_on s 1 e = true from fun y => hs (of_decide_eq_true y)), Nat.add_zero] at I
        exact I
theorem sl_kl {t : Int32} (hf : fN < 256) (H0 : sl_mk (sl_on s 1) 24 = 0 → post (t, d, m, r, nI fN, a1, a2, a3, a4, a5, a6, s, te, pc, a10, a11, a12, a13)) (H1 : sl_mk (sl_on s 1) 24 ≠ 0 → post (t, d, m, r, nI (fN + 1), a1, a2, a3, a4, a5, a6, s, te, pc, a10, a11, a12, upd a13 fN (nI (sl_mk (sl_on s 1) 24)))) : wpX_keepLoop post (t, d, m, r, nI fN, a1, a2, a3, a4, a5, a6, s, te, pc, a10, a11, a12, a13) :=
  ⟨25, sl_kl4 hf H0 H1 25 0 (by omega) (by omega)⟩
/-- what may come of looking at a state -/
abbrev sl_EN (post : Int32 → St1 → Prop) (L t fN : Nat) (d m r : Int32) (a1 a2 a3 a4 a5 a6 s te pc a10 a11 a12 a13 : Nat → Int32) : Prop :=
  (d ≠ 0 → post (nI L) (nI t, d, m, r, nI fN, a1, a2, a3, a4, a5, a6, s, te, pc, a10, a11, a12, a13)) ∧
  (d = 0 → (∀ j, j < 24 → s j ≠ 0) → sl_mk (sl_on s 1) 24 = 0 → post (nI L) (nI t, d, m, r, nI fN, a1, a2, a3, a4, a5, a6, s, te, pc, a10, a11, a12, a13)) ∧
  (d = 0 → (∀ j, j < 24 → s j ≠ 0) → sl_mk (sl_on s 1) 24 ≠ 0 → post (nI L) (nI t, d, m, r, nI (fN + 1), a1, a2, a3, a4, a5, a6, s, te, pc, a10, a11, a12, upd a13 fN (nI (sl_mk (sl_on s 1) 24)))) ∧
  (d = 0 → ∀ e, e < 24 → s e = 0 → (∀ j, j < e → s j ≠ 0) → post (nI (L + 1)) (nI t, d, m, r, nI fN, a1, a2, a3, a4, a5, a6, s, te, pc, upd a10 L (nI e), upd a11 L (nI t), upd a12 L 0, a13))
theorem sl_en11 {post : Int32 → St1 → Prop} {L : Nat} (hL : L < 25) (hf : fN < 256) (hd : d = 0) (h : sl_EN post L t fN d m r a1 a2 a3 a4 a5 a6 s te pc a10 a11 a12 a13) :
    ∀ n e, e + n = 25 → e ≤ 24 → (∀ j, j < e → s j ≠ 0) → wX_enter_11 post (nI L) (nI t) d m r (nI fN) a1 a2 a3 a4 a5 a6 s te pc a10 a11 a12 a13 n (nI e) := by
  intro n
  induction n with
  | zero => intro e h1 h2; omega
  | succ n ih =>
    intro e h1 h2 hz
    refine pk_le 24 e (fun g => ?_) (fun g => ⟨pk_in e 24 (by omega), ?_⟩)
    · have e2 : e = 24 := by omega
      subst e2
      unfold wX_enter_32
      refine br_t rfl (sl_kl hf (fun z => h.2.1 hd hz z) (fun z => h.2.2.1 hd hz z))
    · rw [nI_clamp (show e < 2 ^ 31 by omega)]
      refine br_c (fun hs => ?_) (fun hs => nm_r (nI_1 e) (ih (e + 1) (by omega) (by omega) (fun j hj => ?_)))
      · unfold wX_enter_32
        have cl : (nI L).toNatClampNeg = L := nI_clamp (by omega)
        refine pk_eq e 24 (fun y => absurd y (by omega)) (fun y => ⟨pk_in L 25 hL, nm_r (e' := upd a10 L (nI e)) (by rw [cl]) ⟨pk_in L 25 hL, nm_r (e' := upd a11 L (nI t)) (by rw [cl]) ⟨pk_in L 25 hL, nm_r (e' := upd a12 L 0) (by rw [cl]) ?_⟩⟩⟩)
        rw [nI_1]
        exact h.2.2.2 hd e (by omega) hs hz
      · by_cases y : j = e
        · rw [y]
          exact hs
        · exact hz j (by omega)
theorem sl_en {post : Int32 → St1 → Prop} {L : Nat} (hL : L < 25) (hf : fN < 256) (h : sl_EN post L t fN d m r a1 a2 a3 a4 a5 a6 s te pc a10 a11 a12 a13) : wpX_enter post (nI t, d, m, r, nI fN, a1, a2, a3, a4, a5, a6, s, te, pc, a10, a11, a12, a13) (nI L) := by
  unfold wpX_enter
  exact br_c (fun hd => ⟨25, sl_en11 hL hf hd h 25 0 (by omega) (by omega) (fun j hj => absurd hj (by omega))⟩) (fun hd => h.1 hd)
theorem sl_ext_back {t' : Nat} {s' te' : Nat → Int32} (h : sl_ext t0 s0 te0 t' s' te') : sl_ext t0 s0 te0 t0 s0 te' :=
  ⟨Nat.le_refl t0, h.2.1, fun _ => Or.inl rfl, fun k h1 h2 => absurd h1 (by omega)⟩
theorem sl_bt0 (H : post (nI t0, 0, m, r, f, a1, a2, a3, a4, a5, a6, s0, te, pc, a10, a11, a12, a13)) : ∀ n t s, t - t0 < n → t ≤ 24 → sl_ext t0 s0 te0 t s te → wX_backTo_0 post (nI t0) d m r f n (nI t) a1 a2 a3 a4 a5 a6 s te pc a10 a11 a12 a13 := by
  intro n
  induction n with
  | zero => intro t s h1; omega
  | succ n ih =>
    intro t s h1 h24 hx
    have hx1 := hx.1
    refine pk_le t t0 (fun h => ?_) (fun h => ?_)
    · have e1 : t = t0 := by have := hx.1; omega
      have e2 : s = s0 := by
        funext i
        rcases hx.2.2.1 i with z | ⟨_, _, _, k, k1, k2, _⟩
        · exact z
        · omega
      rw [e1, e2]
      exact H
    · obtain ⟨t1, rfl⟩ : ∃ t1, t = t1 + 1 := ⟨t - 1, by omega⟩
      obtain ⟨e, e1, e2, e3⟩ := hx.2.2.2 t1 (by omega) (by omega)
      refine nm_r (nI_pred t1) ⟨pk_in t1 24 (by omega), ?_⟩
      rw [nI_clamp (show t1 < 2 ^ 31 by omega), e2]
      refine ⟨pk_in e 24 e1, nm_r (e' := upd s e 0) (by rw [nI_clamp (show e < 2 ^ 31 by omega)]) (ih t1 (upd s e 0) (by omega) (by omega) ⟨by omega, hx.2.1, fun i => ?_, fun k k1 k2 => hx.2.2.2 k k1 (by omega)⟩)⟩
      by_cases y : i = e
      · rw [y, pk_us, e3]
        exact Or.inl rfl
      · rw [pk_un y]
        rcases hx.2.2.1 i with z | ⟨z0, z1, z2, k, k1, k2, k3⟩
        · exact Or.inl z
        · refine Or.inr ⟨z0, z1, z2, k, k1, ?_, k3⟩
          rcases Nat.lt_or_ge k t1 with q | q
          · exact q
          · have ek : k = t1 := by omega
            rw [ek, e2, nI_eq (by omega) (by omega)] at k3
            exact absurd k3.symm y
theorem sl_bt (h24 : t ≤ 24) (hx : sl_ext t0 s0 te0 t s te) (H : post (nI t0, 0, m, r, f, a1, a2, a3, a4, a5, a6, s0, te, pc, a10, a11, a12, a13)) : wpX_backTo post (nI t, d, m, r, f, a1, a2, a3, a4, a5, a6, s, te, pc, a10, a11, a12, a13) (nI t0) :=
  ⟨t - t0 + 1, sl_bt0 H _ t s (by omega) h24 hx⟩
theorem sl_58 {post : Int32 → St1 → Prop} {L e : Nat} {v : Int32} (hb : sl_bd a3 a4 a5 a6) (hc : ∀ i, i < 9 → a1 i = nI (c i) ∧ c i ≤ 5) (hL : L < 25) (hf : fN < 256) (hv : v = 1 ∨ v = 2) (he : e < 24) (h0 : s e = 0) (hw : sl_wf t s)
    (H : ∀ t' d' m' s' te' pc', sl_Q c (t + 1) d (upd s e v) (upd te t (nI e)) t' d' s' te' → (d' = 0 → sl_fix c s') → sl_EN post L t' fN d' m' r a1 a2 a3 a4 a5 a6 s' te' pc' a10 a11 a12 a13) : wX_tryNext_58 post (nI L) v (nI e) (nI t) d m r (nI fN) a1 a2 a3 a4 a5 a6 s te pc a10 a11 a12 a13 := by
  have hv0 : v ≠ 0 := by rcases hv with h | h <;> (rw [h]; decide)
  unfold wX_tryNext_58
  refine sl_as he h0 hv0 (sl_wf_lt hw he h0) ?_
  refine sl_pr (c := c) hb hc (sl_wf_one hw he h0 hv) (fun t' d' m' s' te' pc' hQ hfix => ?_)
  have h := H t' d' m' s' te' pc' hQ hfix
  exact sl_en hL hf ⟨h.1, h.2.1, h.2.2.1, h.2.2.2⟩
theorem sl_tn {post : Int32 → St1 → Prop} {L k e : Nat} (hL : L < 25) (hx : sl_ext t0 s0 te0 t s te) (h24 : t ≤ 24) (h10 : a10 L = nI e) (h11 : a11 L = nI t0) (h12 : a12 L = nI k) (hk : k ≤ 2)
    (H2 : k = 2 → post (nI L) (nI t0, 0, m, r, f, a1, a2, a3, a4, a5, a6, s0, te, pc, a10, a11, a12, a13))
    (H0 : k = 0 → wX_tryNext_58 post (nI (L + 1)) 2 (nI e) (nI t0) 0 m r f a1 a2 a3 a4 a5 a6 s0 te pc a10 a11 (upd a12 L (nI (k + 1))) a13)
    (H1 : k = 1 → wX_tryNext_58 post (nI (L + 1)) 1 (nI e) (nI t0) 0 m r f a1 a2 a3 a4 a5 a6 s0 te pc a10 a11 (upd a12 L (nI (k + 1))) a13) : wpX_tryNext post (nI t, d, m, r, f, a1, a2, a3, a4, a5, a6, s, te, pc, a10, a11, a12, a13) (nI (L + 1)) := by
  have cl : (nI L).toNatClampNeg = L := nI_clamp (by omega)
  unfold wpX_tryNext
  refine nm_r (nI_pred L) ⟨pk_in L 25 hL, ?_⟩
  rw [cl, h11]
  refine sl_bt h24 hx ⟨pk_in L 25 hL, ?_⟩
  rw [h12, h10, nI_1]
  refine pk_eq k 2 (fun z => H2 z) (fun z => ⟨pk_in L 25 hL, pk_in L 25 hL, nm_r (e' := upd a12 L (nI (k + 1))) rfl ⟨pk_in L 25 hL, pk_in L 25 hL, ?_⟩⟩)
  rw [pk_us]
  refine pk_eq (k + 1) 1 (fun y => H0 (by omega)) (fun y => H1 (by omega))
end
end
section
section
variable {post : St1 → Prop} {c : Nat → Nat} {t : Nat} {d m r f : Int32} {a1 a2 a3 a4 a5 a6 s te pc a10 a11 a12 a13 : Nat → Int32}
/-- the search's loop, at step k -/
def sl_LP (post : St1 → Prop) (n k : Nat) : Int32 → St1 → Prop := fun x u => match u with
  | (t, d, m, r, f, a1, a2, a3, a4, a5, a6, s, te, pc, a10, a11, a12, a13) => wX_prepare_95 post n x (nI k) t d m r f a1 a2 a3 a4 a5 a6 s te pc a10 a11 a12 a13
/-- a state that is looked at with b level edges left to branch on: the search comes back to it, with its loops kept -/
def sl_node (post : St1 → Prop) (c : Nat → Nat) (r : Int32) (a1 a2 a3 a4 a5 a6 : Nat → Int32) (b : Nat) : Prop :=
  ∀ (L t k n : Nat) (d m : Int32) (s te pc a10 a11 a12 a13 : Nat → Int32) (Ls : List Nat),
    L + b ≤ 12 → k + 3 * 2 ^ b ≤ 30000 → n + k = 30001 → sl_wf t s → (d = 0 → sl_fix c s) → (d ≠ 0 → sl_sols c s = []) → (∀ j, j + b < 12 → s j ≠ 0) → sl_kp (nI Ls.length) a13 Ls → Ls.length + (sl_sols c s).length ≤ 213 →
    (∀ (k' n' t' : Nat) (d' m' f' : Int32) (s' te' pc' b10 b11 b12 b13 : Nat → Int32) (Ls' : List Nat), n' + k' = 30001 → k' + 3 ≤ k + 3 * 2 ^ b → sl_ext t s te t' s' te' → t' ≤ 24 → (∀ j, j < L → b10 j = a10 j ∧ b11 j = a11 j ∧ b12 j = a12 j) → sl_kp f' b13 Ls' → Ls'.Perm (Ls ++ sl_sols c s) → wX_prepare_95 post n' (nI L) (nI k') (nI t') d' m' r f' a1 a2 a3 a4 a5 a6 s' te' pc' b10 b11 b12 b13) →
    sl_EN (sl_LP post n k) L t Ls.length d m r a1 a2 a3 a4 a5 a6 s te pc a10 a11 a12 a13
theorem sl_half {b L k n e q t0 t : Nat} {v d m f : Int32} {s te pc a10 a11 a12 a13 s0 te0 : Nat → Int32} {Ls : List Nat} (hb : sl_bd a3 a4 a5 a6) (hc : ∀ i, i < 9 → a1 i = nI (c i) ∧ c i ≤ 5) (IH : sl_node post c r a1 a2 a3 a4 a5 a6 b)
    (hLb : L + 1 + b ≤ 12) (hk : k + 1 + 3 * 2 ^ b ≤ 30000) (hn : n + k = 30001) (hw0 : sl_wf t0 s0) (he : e < 24) (hs0 : s0 e = 0) (hd0 : ∀ j, j < e → s0 j ≠ 0) (heb : 12 ≤ e + 1 + b) (hx : sl_ext t0 s0 te0 t s te) (h24 : t ≤ 24)
    (h10 : a10 L = nI e) (h11 : a11 L = nI t0) (h12 : a12 L = nI q) (hq : (q = 0 ∧ v = 2) ∨ (q = 1 ∧ v = 1)) (hkp : sl_kp f a13 Ls) (hlen : Ls.length + (sl_sols c (upd s0 e v)).length ≤ 213)
    (K : ∀ (k' n' t' : Nat) (d' m' f' : Int32) (s' te' pc' b10 b11 b12 b13 : Nat → Int32) (Ls' : List Nat), n' + k' = 30001 → k' + 2 ≤ k + 3 * 2 ^ b → sl_ext t0 s0 te0 t' s' te' → t' ≤ 24 → (∀ j, j < L → b10 j = a10 j ∧ b11 j = a11 j ∧ b12 j = a12 j) → b10 L = nI e → b11 L = nI t0 → b12 L = nI (q + 1) → sl_kp f' b13 Ls' → Ls'.Perm (Ls ++ sl_sols c (upd s0 e v)) → wX_prepare_95 post n' (nI (L + 1)) (nI k') (nI t') d' m' r f' a1 a2 a3 a4 a5 a6 s' te' pc' b10 b11 b12 b13) :
    wX_prepare_95 post n (nI (L + 1)) (nI k) (nI t) d m r f a1 a2 a3 a4 a5 a6 s te pc a10 a11 a12 a13 := by
  obtain ⟨n1, rfl⟩ : ∃ n1, n = n1 + 1 := ⟨n - 1, by omega⟩
  have hf := hkp.1
  subst hf
  have hv : v = 1 ∨ v = 2 := by rcases hq with h | h; exact Or.inr h.2; exact Or.inl h.2
  have hv0 : v ≠ 0 := by rcases hv with h | h <;> (rw [h]; decide)
  have child : ∀ t' d' m' s' te' pc', sl_Q c (t0 + 1) 0 (upd s0 e v) (upd te t0 (nI e)) t' d' s' te' → (d' = 0 → sl_fix c s') → sl_EN (sl_LP post n1 (k + 1)) (L + 1) t' Ls.length d' m' r a1 a2 a3 a4 a5 a6 s' te' pc' a10 a11 (upd a12 L (nI (q + 1))) a13 := by
    intro t' d' m' s' te' pc' hQ hfix
    have es := sl_sols_Q hQ
    refine IH (L + 1) t' (k + 1) n1 d' m' s' te' pc' a10 a11 (upd a12 L (nI (q + 1))) a13 Ls (by omega) (by omega) (by omega) hQ.1 hfix (fun z => by rw [← es]; exact sl_sols_dead hQ rfl z) (fun j hj => ?_) ⟨rfl, hkp.2⟩ (by rw [← es]; exact hlen) (fun k' n' t2 d2 m2 f2 s2 te2 pc2 b10 b11 b12 b13 Ls2 g1 g2 g3 g4 g5 g6 g7 => ?_)
    · have g : upd s0 e v j ≠ 0 := by
        by_cases y : j = e
        · rw [y, pk_us]
          exact hv0
        · rw [pk_un y]
          exact hd0 j (by omega)
      rcases hQ.2.1.2.2.1 j with z | ⟨_, z, _⟩
      · rw [z]
        exact g
      · exact absurd z g
    · rw [← es] at g7
      refine K k' n' t2 d2 m2 f2 s2 te2 pc2 b10 b11 b12 b13 Ls2 g1 (by omega) (sl_ext_trans (sl_ext_trans (sl_ext_back hx) (sl_ext_one he hs0 hv0)) (sl_ext_trans hQ.2.1 g3)) g4 (fun j hj => ?_) ?_ ?_ ?_ g6 g7
      · have a := g5 j (by omega)
        rw [pk_un (show j ≠ L by omega)] at a
        exact a
      · rw [(g5 L (by omega)).1, h10]
      · rw [(g5 L (by omega)).2.1, h11]
      · rw [(g5 L (by omega)).2.2, pk_us]
  refine pk_le 30000 k (fun h => absurd h (by omega)) (fun _ => pk_le (L + 1) 0 (fun h => absurd h (by omega)) (fun _ => ?_))
  refine sl_tn (by omega) hx h24 h10 h11 h12 (by omega) (fun z => absurd z (by omega)) (fun z => ?_) (fun z => ?_)
  · have ev : v = 2 := by rcases hq with h | h; exact h.2; exact absurd z (by omega)
    subst ev
    refine sl_58 (c := c) hb hc (by omega) (by omega) hv he hs0 hw0 (fun t' d' m' s' te' pc' hQ hfix => ?_)
    have h := child t' d' m' s' te' pc' hQ hfix
    exact ⟨fun z => nm_r (nI_1 k) (h.1 z), fun z1 z2 z3 => nm_r (nI_1 k) (h.2.1 z1 z2 z3), fun z1 z2 z3 => nm_r (nI_1 k) (h.2.2.1 z1 z2 z3), fun z1 e2 z2 z3 z4 => nm_r (nI_1 k) (h.2.2.2 z1 e2 z2 z3 z4)⟩
  · have ev : v = 1 := by rcases hq with h | h; exact absurd z (by omega); exact h.2
    subst ev
    refine sl_58 (c := c) hb hc (by omega) (by omega) hv he hs0 hw0 (fun t' d' m' s' te' pc' hQ hfix => ?_)
    have h := child t' d' m' s' te' pc' hQ hfix
    exact ⟨fun z => nm_r (nI_1 k) (h.1 z), fun z1 z2 z3 => nm_r (nI_1 k) (h.2.1 z1 z2 z3), fun z1 z2 z3 => nm_r (nI_1 k) (h.2.2.1 z1 z2 z3), fun z1 e2 z2 z3 z4 => nm_r (nI_1 k) (h.2.2.2 z1 e2 z2 z3 z4)⟩
theorem sl_nodes (hb : sl_bd a3 a4 a5 a6) (hc : ∀ i, i < 9 → a1 i = nI (c i) ∧ c i ≤ 5) : ∀ b, sl_node post c r a1 a2 a3 a4 a5 a6 b := by
  have opn : ∀ b, (∀ b', b = b' + 1 → sl_node post c r a1 a2 a3 a4 a5 a6 b') → sl_node post c r a1 a2 a3 a4 a5 a6 b := by
    intro b ih L t k n d m s te pc a10 a11 a12 a13 Ls hL hk hn hw hfix hdead hdec hkp hlen K
    have two : 1 ≤ 2 ^ b := Nat.one_le_two_pow
    refine ⟨fun hd => ?_, fun hd hz h0 => ?_, fun hd hz h0 => ?_, fun hd e he h0 hj => ?_⟩
    · exact K k n t d m _ s te pc a10 a11 a12 a13 Ls hn (by omega) sl_ext_refl (sl_wf_le hw) (fun j hj => ⟨rfl, rfl, rfl⟩) hkp (by rw [hdead hd, List.append_nil])
    · exact K k n t d m _ s te pc a10 a11 a12 a13 Ls hn (by omega) sl_ext_refl (sl_wf_le hw) (fun j hj => ⟨rfl, rfl, rfl⟩) hkp (by rw [sl_sols_leaf hw (hfix hd) hz, if_pos h0, List.append_nil])
    · exact K k n t d m _ s te pc a10 a11 a12 _ (Ls ++ [sl_mk (sl_on s 1) 24]) hn (by omega) sl_ext_refl (sl_wf_le hw) (fun j hj => ⟨rfl, rfl, rfl⟩) (sl_kp_add hkp) (by rw [sl_sols_leaf hw (hfix hd) hz, if_neg h0])
    · have he12 := sl_level (hfix hd) he h0 hj
      have heb : 12 ≤ e + b := by
        rcases Nat.lt_or_ge (e + b) 12 with y | y
        · exact absurd h0 (hdec e y)
        · exact y
      obtain ⟨b', rfl⟩ : ∃ b', b = b' + 1 := ⟨b - 1, by omega⟩
      have IH := ih b' rfl
      have hlen2 := sl_sols_len c he h0
      have p2 : 2 ^ (b' + 1) = 2 ^ b' * 2 := Nat.pow_succ ..
      have two2 : 1 ≤ 2 ^ b' := Nat.one_le_two_pow
      refine sl_half (c := c) (q := 0) (v := 2) (t0 := t) (s0 := s) (te0 := te) (e := e) (Ls := Ls) hb hc IH (by omega) (by omega) hn hw he h0 hj (by omega) sl_ext_refl (sl_wf_le hw) pk_us pk_us pk_us (Or.inl ⟨rfl, rfl⟩) hkp (by omega) (fun k1 n1 t1 d1 m1 f1 s1 te1 pc1 b10 b11 b12 b13 L1 g1 g2 g3 g4 g5 g6 g7 g8 g9 g10 => ?_)
      have len1 := g10.length_eq
      rw [List.length_append] at len1
      refine sl_half (c := c) (q := 1) (v := 1) (t0 := t) (s0 := s) (te0 := te) (e := e) (Ls := L1) hb hc IH (by omega) (by omega) g1 hw he h0 hj (by omega) g3 g4 g6 g7 g8 (Or.inr ⟨rfl, rfl⟩) g9 (by omega) (fun k2 n2 t2 d2 m2 f2 s2 te2 pc2 e10 e11 e12 e13 L2 i1 i2 i3 i4 i5 i6 i7 i8 i9 i10 => ?_)
      obtain ⟨n3, rfl⟩ : ∃ n3, n2 = n3 + 1 := ⟨n2 - 1, by omega⟩
      refine pk_le 30000 k2 (fun h => absurd h (by omega)) (fun _ => pk_le (L + 1) 0 (fun h => absurd h (by omega)) (fun _ => ?_))
      refine sl_tn (by omega) i3 i4 i6 i7 i8 (by omega) (fun _ => nm_r (nI_1 k2) (K (k2 + 1) n3 t 0 m2 f2 s te2 pc2 e10 e11 e12 e13 L2 (by omega) (by omega) (sl_ext_back i3) (sl_wf_le hw) (fun j hj => ?_) i9 ?_)) (fun z => absurd z (by omega)) (fun z => absurd z (by omega))
      · have u1 := i5 j hj
        have u2 := g5 j hj
        rw [pk_un (show j ≠ L by omega), pk_un (show j ≠ L by omega), pk_un (show j ≠ L by omega)] at u2
        exact ⟨u1.1.trans u2.1, u1.2.1.trans u2.2.1, u1.2.2.trans u2.2.2⟩
      · refine i10.trans ((g10.append_right _).trans ?_)
        rw [List.append_assoc]
        exact (sl_sols_split c he h0).symm.append_left Ls
  intro b
  induction b with
  | zero => exact opn 0 (fun b' h => absurd h (by omega))
  | succ b ih => exact opn (b + 1) (fun b' h => by rw [← (show b = b' by omega)]; exact ih)
theorem sl_p51 (hb : sl_bd a3 a4 a5 a6) (hc : ∀ i, i < 9 → a1 i = nI (c i) ∧ c i ≤ 5) (hm : ∀ e, e < 24 → a2 e = 0 ∨ a2 e = 1 ∨ a2 e = 2)
    (H : ∀ t d m f s te pc a10 a11 a12 a13 Ls, sl_kp f a13 Ls → Ls.Perm (sl_sols c a2) → post (nI t, d, m, r, f, a1, a2, a3, a4, a5, a6, s, te, pc, a10, a11, a12, a13)) :
    ∀ n k t m s te, k + n = 25 → k ≤ 24 → sl_wf t s → (∀ j, j < k → s j = a2 j) → (∀ j, k ≤ j → j < 24 → s j = 0) → wX_prepare_51 post n (nI k) (nI t) 0 m r 0 a1 a2 a3 a4 a5 a6 s te pc a10 a11 a12 a13 := by
  intro n
  induction n with
  | zero => intro k t m s te h1 h2; omega
  | succ n ih =>
    intro k t m s te h1 h2 hw hlo hhi
    refine pk_le 24 k (fun h => ?_) (fun h => ⟨pk_in k 24 (by omega), ?_⟩)
    · refine sl_pr (c := c) hb hc hw (fun t' d' m' s' te' pc' hQ hfix => ?_)
      have es : sl_sols c s' = sl_sols c a2 := by
        rw [← sl_sols_Q hQ]
        refine sl_sols_eq (fun T _ _ => ⟨fun z e he => ?_, fun z e he => ?_⟩)
        · rw [← hlo e (by omega)]
          exact z e he
        · rw [hlo e (by omega)]
          exact z e he
      obtain ⟨N, hN⟩ : ∃ N, N + 0 = 30001 := ⟨30001, rfl⟩
      have EN := sl_nodes (post := post) (r := r) (a2 := a2) hb hc 12 0 t' 0 N d' m' s' te' pc' a10 a11 a12 a13 [] (by omega) (by decide) hN hQ.1 hfix (fun z => by rw [← sl_sols_Q hQ]; exact sl_sols_dead hQ rfl z) (fun j hj => absurd hj (by omega)) ⟨rfl, fun i hi => absurd hi (Nat.not_lt_zero i)⟩ (by have := sl_sols_le c s'; show 0 + _ ≤ 213; omega) (fun k' n' t2 d2 m2 f2 s2 te2 pc2 b10 b11 b12 b13 Ls2 g1 g2 g3 g4 g5 g6 g7 => ?_)
      · exact sl_en (L := 0) (fN := 0) (by omega) (by omega) ⟨fun z => ⟨N, EN.1 z⟩, fun z1 z2 z3 => ⟨N, EN.2.1 z1 z2 z3⟩, fun z1 z2 z3 => ⟨N, EN.2.2.1 z1 z2 z3⟩, fun z1 e2 z2 z3 z4 => ⟨N, EN.2.2.2 z1 e2 z2 z3 z4⟩⟩
      · have g2' : k' + 3 ≤ 0 + 3 * 4096 := g2
        obtain ⟨n1, rfl⟩ : ∃ n1, n' = n1 + 1 := ⟨n' - 1, by omega⟩
        rw [es, List.nil_append] at g7
        exact pk_le 30000 k' (fun h => absurd h (by omega)) (fun _ => pk_le 0 0 (fun _ => H t2 d2 m2 f2 s2 te2 pc2 b10 b11 b12 b13 Ls2 g6 g7) (fun h => absurd h (by omega)))
    · have hk : k < 24 := by omega
      have h0 : s k = 0 := hhi k (by omega) hk
      rw [nI_clamp (show k < 2 ^ 31 by omega)]
      refine br_c (fun hz => nm_r (nI_1 k) (ih (k + 1) t m s te (by omega) (by omega) hw (fun j hj => ?_) (fun j h1 h2 => hhi j (by omega) h2))) (fun hz => ⟨pk_in k 24 hk, ?_⟩)
      · by_cases y : j = k
        · rw [y, h0, hz]
        · exact hlo j (by omega)
      · have hv : a2 k = 1 ∨ a2 k = 2 := (hm k hk).resolve_left hz
        refine sl_as hk h0 hz (sl_wf_lt hw hk h0) ?_
        refine nm_r (nI_1 k) (ih (k + 1) (t + 1) 1 (upd s k (a2 k)) (upd te t (nI k)) (by omega) (by omega) (sl_wf_one hw hk h0 hv) (fun j hj => ?_) (fun j h1 h2 => ?_))
        · by_cases y : j = k
          · rw [y, pk_us]
          · rw [pk_un y]
            exact hlo j (by omega)
        · rw [pk_un (show j ≠ k by omega)]
          exact hhi j (by omega) h2
theorem sl_p30 {t d m r f : Int32} (H : ∀ s, (∀ j, j < 24 → s j = 0) → ∃ fu, wX_prepare_51 post fu 0 t d m r f a1 a2 a3 a4 a5 a6 s te pc a10 a11 a12 a13) : ∀ n k s, k + n = 25 → k ≤ 24 → (∀ j, j < k → s j = 0) → wX_prepare_30 post t d m r f n (nI k) a1 a2 a3 a4 a5 a6 s te pc a10 a11 a12 a13 := by
  intro n
  induction n with
  | zero => intro k s h1 h2; omega
  | succ n ih =>
    intro k s h1 h2 hz
    refine pk_le 24 k (fun h => H s (fun j hj => hz j (by omega))) (fun h => ⟨pk_in k 24 (by omega), nm_r (e' := upd s k 0) (by rw [nI_clamp (show k < 2 ^ 31 by omega)]) (nm_r (nI_1 k) (ih (k + 1) _ (by omega) (by omega) (fun j hj => ?_)))⟩)
    by_cases y : j = k
    · rw [y, pk_us]
    · rw [pk_un y]
      exact hz j (by omega)
theorem sl_prep {t : Int32} (hb : sl_bd a3 a4 a5 a6) (hc : ∀ i, i < 9 → a1 i = nI (c i) ∧ c i ≤ 5) (hm : ∀ e, e < 24 → a2 e = 0 ∨ a2 e = 1 ∨ a2 e = 2) (hr : r = 0)
    (H : ∀ t d m f s te pc a10 a11 a12 a13 Ls, sl_kp f a13 Ls → Ls.Perm (sl_sols c a2) → post (nI t, d, m, 1, f, a1, a2, a3, a4, a5, a6, s, te, pc, a10, a11, a12, a13)) : wpX_prepare post (t, d, m, r, f, a1, a2, a3, a4, a5, a6, s, te, pc, a10, a11, a12, a13) := by
  unfold wpX_prepare
  refine br_t hr ⟨25, sl_p30 (fun s hs => ⟨25, sl_p51 hb hc hm H 25 0 0 m s te (by omega) (by omega) ⟨fun e he => Or.inl (hs e he), (sl_cnt_0 24 hs).symm⟩ (fun j hj => absurd hj (by omega)) (fun j _ hj => hs j hj)⟩) 25 0 s (by omega) (by omega) (fun j hj => absurd hj (by omega))⟩
end
end
section
theorem sl_nxor (a b : Nat) : nI a ^^^ nI b = nI (a ^^^ b) := by
  apply Int32.toBitVec_inj.1
  show BitVec.ofNat 32 a ^^^ BitVec.ofNat 32 b = BitVec.ofNat 32 (a ^^^ b)
  apply BitVec.eq_of_getLsbD_eq
  intro i hi
  simp [hi]
theorem sl_smod : ∀ e, e < 24 → ((nI e &&& 31).toBitVec.smod 32).toNat = e := by decide +kernel
theorem sl_bit {T e : Nat} (hT : T < 2 ^ 24) (he : e < 24) : (nI T >>> (nI e &&& 31)) &&& 1 = nI (T / 2 ^ e % 2) := by
  have h1 : T / 2 ^ e ≤ T := Nat.div_le_self _ _
  rw [pk_shrN (by omega) _ e (sl_smod e he), pk_andN (by omega) 1 (by decide)]
theorem sl_tb (T e : Nat) : T.testBit e = decide (T / 2 ^ e % 2 = 1) := Nat.testBit_eq_decide_div_mod_eq
theorem sl_b01 (T e : Nat) : T / 2 ^ e % 2 = (T.testBit e).toNat := by
  rw [sl_tb]
  rcases Nat.mod_two_eq_zero_or_one (T / 2 ^ e) with h | h <;> rw [h] <;> rfl
/-- the object: its board, clues and marks -/
def sl_ob (c : Nat → Nat) (a1 a2 a3 a4 a5 a6 : Nat → Int32) : Prop := sl_bd a3 a4 a5 a6 ∧ (∀ i, i < 9 → a1 i = nI (c i) ∧ c i ≤ 5) ∧ (∀ e, e < 24 → a2 e = 0 ∨ a2 e = 1 ∨ a2 e = 2)
/-- the loops stand ready -/
def sl_rd (c : Nat → Nat) (r f : Int32) (a2 a13 : Nat → Int32) (Ls : List Nat) : Prop := r ≠ 0 ∧ sl_kp f a13 Ls ∧ Ls.Perm (sl_sols c a2)
theorem sl_rd_len {c : Nat → Nat} {r f : Int32} {a2 a13 : Nat → Int32} {Ls : List Nat} (h : sl_rd c r f a2 a13 Ls) : Ls.length = (sl_sols c a2).length ∧ Ls.length ≤ 213 := by
  have e := h.2.2.length_eq
  exact ⟨e, by rw [e]; exact sl_sols_le c a2⟩
theorem sl_rd_mem {c : Nat → Nat} {r f : Int32} {a2 a13 : Nat → Int32} {Ls : List Nat} {i : Nat} (h : sl_rd c r f a2 a13 Ls) (hi : i < Ls.length) : Ls.getD i 0 ∈ sl_good ∧ sl_clue c (Ls.getD i 0) := by
  have hm : Ls.getD i 0 ∈ Ls := by
    rw [List.getD_eq_getElem?_getD, List.getElem?_eq_getElem hi]
    exact List.getElem_mem hi
  have h2 := sl_sols_mem.mp (h.2.2.mem_iff.mp hm)
  exact ⟨h2.1, h2.2.1⟩
section
variable {post : Int32 → St1 → Prop} {c : Nat → Nat} {t d m r f : Int32} {a1 a2 a3 a4 a5 a6 s te pc a10 a11 a12 a13 : Nat → Int32} {Ls : List Nat} {i e : Nat}
theorem sl_sol (ho : sl_ob c a1 a2 a3 a4 a5 a6) (hr : r = 0) (H : ∀ t d m f s te pc a10 a11 a12 a13 Ls, sl_rd c 1 f a2 a13 Ls → post f (t, d, m, 1, f, a1, a2, a3, a4, a5, a6, s, te, pc, a10, a11, a12, a13)) : wpX_solutions post (t, d, m, r, f, a1, a2, a3, a4, a5, a6, s, te, pc, a10, a11, a12, a13) := by
  unfold wpX_solutions
  exact sl_prep ho.1 ho.2.1 ho.2.2 hr (fun t d m f s te pc a10 a11 a12 a13 Ls hk hp => H (nI t) d m f s te pc a10 a11 a12 a13 Ls ⟨by decide, hk, hp⟩)
theorem sl_ch (h : sl_rd c r f a2 a13 Ls) (hi : i < Ls.length) (he : e < 24) (H : post (nI ((Ls.getD i 0).testBit e).toNat) (t, d, m, r, f, a1, a2, a3, a4, a5, a6, s, te, pc, a10, a11, a12, a13)) : wpX_chosen post (t, d, m, r, f, a1, a2, a3, a4, a5, a6, s, te, pc, a10, a11, a12, a13) (nI i) (nI e) := by
  have hl := sl_rd_len h
  have hT := sl_g_lt _ (sl_rd_mem h hi).1
  unfold wpX_chosen
  refine br_f (nI_pos (by omega)) (pk_lt e 24 (fun _ => ?_) (fun z => absurd z (by omega)))
  refine br_f h.1 ?_
  refine br_f (nI_pos (by omega)) (pk_le Ls.length i (fun z => absurd z (by omega)) (fun _ => ⟨pk_in i 256 (by omega), ?_⟩) (hx := h.2.1.1))
  rw [nI_clamp (show i < 2 ^ 31 by omega), h.2.1.2 i hi, sl_bit hT he, sl_b01]
  cases hb : (Ls.getD i 0).testBit e with
  | true => 
    rw [hb] at H
    exact br_t rfl H
  | false =>
    rw [hb] at H
    exact br_f (by decide) H
theorem sl_o4 {post : Int32 → Prop} {T : Nat} (hT : T < 2 ^ 24) (H : post (nI (sl_ones T 24))) : ∀ n k, k + n = 25 → k ≤ 24 → wX_ones_4 post (nI T) n (nI (sl_ones T k)) (nI k) := by
  intro n
  induction n with
  | zero => intro k h1 h2; omega
  | succ n ih =>
    intro k h1 h2
    refine pk_le 24 k (fun h => ?_) (fun h => nm_r (e' := nI (sl_ones T (k + 1))) ?_ (nm_r (nI_1 k) (ih (k + 1) (by omega) (by omega))))
    · have e : k = 24 := by omega
      subst e
      exact H
    · rw [sl_bit hT (by omega), nI_add, sl_ones]
theorem sl_length (h : sl_rd c r f a2 a13 Ls) (hi : i < Ls.length) (H : post (nI (sl_ones (Ls.getD i 0) 24)) (t, d, m, r, f, a1, a2, a3, a4, a5, a6, s, te, pc, a10, a11, a12, a13)) : wpX_length post (t, d, m, r, f, a1, a2, a3, a4, a5, a6, s, te, pc, a10, a11, a12, a13) (nI i) := by
  have hl := sl_rd_len h
  have hT := sl_g_lt _ (sl_rd_mem h hi).1
  unfold wpX_length
  refine br_f h.1 ?_
  refine br_f (nI_pos (by omega)) (pk_lt i Ls.length (fun _ => ⟨pk_in i 256 (by omega), ?_⟩) (fun z => absurd z (by omega)) (hy := h.2.1.1))
  rw [nI_clamp (show i < 2 ^ 31 by omega), h.2.1.2 i hi]
  exact ⟨25, sl_o4 hT H 25 0 (by omega) (by omega)⟩
theorem sl_i33 {J : Int32 → Int32 → Prop} {T rr tot : Nat} (hT : T < 2 ^ 24) (hrr : rr < 3) (hi : i < 256) (ha : a13 i = nI T) (H : J (nI tot) (nI (rr + 1))) :
    ∀ n k o a, k + n = 4 → k ≤ 3 → sl_in3 T rr (3 - k) k o a = tot → wX_inside_33 post J (nI i) (nI rr) t d m r f a1 a2 a3 a4 a5 a6 s te pc a10 a11 a12 a13 n (nI a) (nI o) (nI k) := by
  intro n
  induction n with
  | zero => intro k o a h1 h2; omega
  | succ n ih =>
    intro k o a h1 h2 ht
    refine pk_le 3 k (fun h => nm_r (nI_1 rr) ?_) (fun h => ⟨pk_in i 256 hi, ?_⟩)
    · have e : k = 3 := by omega
      subst e
      have e2 : a = tot := ht
      rw [e2]
      exact H
    · rw [show 3 - k = (3 - (k + 1)) + 1 by omega, sl_in3] at ht
      have ix : (12 : Int32) + nI rr * 4 + nI k = nI (12 + rr * 4 + k) := by
        rw [show (12 : Int32) = nI 12 from rfl, show (4 : Int32) = nI 4 from rfl, pk_mul, nI_add, nI_add]
      rw [nI_clamp (show i < 2 ^ 31 by omega), ha, ix, sl_bit hT (by omega)]
      refine nm_r (sl_nxor _ _) (nm_r (nI_add _ _) (nm_r (nI_1 k) (ih (k + 1) _ _ (by omega) (by omega) ht)))
theorem sl_i22 {T tot : Nat} (hT : T < 2 ^ 24) (hi : i < 256) (ha : a13 i = nI T) (H : post (nI tot) (t, d, m, r, f, a1, a2, a3, a4, a5, a6, s, te, pc, a10, a11, a12, a13)) :
    ∀ n k a, k + n = 4 → k ≤ 3 → sl_inr T (3 - k) k a = tot → wX_inside_22 post (nI i) t d m r f a1 a2 a3 a4 a5 a6 s te pc a10 a11 a12 a13 n (nI a) (nI k) := by
  intro n
  induction n with
  | zero => intro k a h1 h2; omega
  | succ n ih =>
    intro k a h1 h2 ht
    refine pk_le 3 k (fun h => ?_) (fun h => ?_)
    · have e : k = 3 := by omega
      subst e
      have e2 : a = tot := ht
      rw [e2]
      exact H
    · rw [show 3 - k = (3 - (k + 1)) + 1 by omega, sl_inr] at ht
      exact ⟨4, sl_i33 hT (by omega) hi ha (ih (k + 1) _ (by omega) (by omega) ht) 4 0 0 a (by omega) (by omega) rfl⟩
theorem sl_inside (h : sl_rd c r f a2 a13 Ls) (hi : i < Ls.length) (H : post (nI (sl_inr (Ls.getD i 0) 3 0 0)) (t, d, m, r, f, a1, a2, a3, a4, a5, a6, s, te, pc, a10, a11, a12, a13)) : wpX_inside post (t, d, m, r, f, a1, a2, a3, a4, a5, a6, s, te, pc, a10, a11, a12, a13) (nI i) := by
  have hl := sl_rd_len h
  have hT := sl_g_lt _ (sl_rd_mem h hi).1
  unfold wpX_inside
  refine br_f h.1 ?_
  exact br_f (nI_pos (by omega)) (pk_lt i Ls.length (fun _ => ⟨4, sl_i22 hT (by omega) (h.2.1.2 i hi) H 4 0 0 (by omega) (by omega) rfl⟩) (fun z => absurd z (by omega)) (hy := h.2.1.1))
theorem sl_v21 {tot : Nat} (h : sl_rd c r f a2 a13 Ls) (he : e < 24) (H : post (nI tot) (t, d, m, r, f, a1, a2, a3, a4, a5, a6, s, te, pc, a10, a11, a12, a13)) :
    ∀ n k a, k + n = Ls.length + 1 → k ≤ Ls.length → a + (Ls.drop k).countP (fun T => T.testBit e) = tot → wX_votes_21 post (nI e) t d m r f a1 a2 a3 a4 a5 a6 s te pc a10 a11 a12 a13 n (nI a) (nI k) := by
  have hl := sl_rd_len h
  intro n
  induction n with
  | zero => intro k a h1 h2; omega
  | succ n ih =>
    intro k a h1 h2 ht
    refine pk_le Ls.length k (fun h => ?_) (fun hk => ⟨pk_in k 256 (by omega), ?_⟩) (hx := h.2.1.1)
    · have e : k = Ls.length := by omega
      subst e
      rw [List.drop_length] at ht
      have e2 : a = tot := ht
      rw [e2]
      exact H
    · have hT := sl_g_lt _ (sl_rd_mem h hk).1
      have eg : Ls.getD k 0 = Ls[k] := by
        rw [List.getD_eq_getElem?_getD, List.getElem?_eq_getElem hk]
        rfl
      rw [nI_clamp (show k < 2 ^ 31 by omega), h.2.1.2 k hk, sl_bit hT he, sl_b01]
      refine nm_r (nI_add _ _) (nm_r (nI_1 k) (ih (k + 1) _ (by omega) (by omega) ?_))
      rw [List.drop_eq_getElem_cons hk, List.countP_cons, ← eg] at ht
      cases hb : (Ls.getD k 0).testBit e with
      | true =>
        rw [hb, if_pos rfl] at ht
        show a + 1 + _ = tot
        omega
      | false =>
        rw [hb, if_neg (by decide)] at ht
        exact ht
theorem sl_votes (h : sl_rd c r f a2 a13 Ls) (he : e < 24) (H : post (nI (Ls.countP (fun T => T.testBit e))) (t, d, m, r, f, a1, a2, a3, a4, a5, a6, s, te, pc, a10, a11, a12, a13)) : wpX_votes post (t, d, m, r, f, a1, a2, a3, a4, a5, a6, s, te, pc, a10, a11, a12, a13) (nI e) := by
  unfold wpX_votes
  refine br_f (nI_pos (by omega)) (pk_lt e 24 (fun _ => ?_) (fun z => absurd z (by omega)))
  refine br_f h.1 ?_
  exact ⟨Ls.length + 1, sl_v21 h he H _ 0 0 (by omega) (by omega) (by rw [List.drop_zero, Nat.zero_add])⟩
theorem sl_mark {v : Nat} (he : e < 24) (hv : v ≤ 2) (H : ∀ x, post x (t, d, m, 0, f, a1, upd a2 e (nI v), a3, a4, a5, a6, s, te, pc, a10, a11, a12, a13)) : wpX_mark post (t, d, m, r, f, a1, a2, a3, a4, a5, a6, s, te, pc, a10, a11, a12, a13) (nI e) (nI v) := by
  have cl : (nI e).toNatClampNeg = e := nI_clamp (by omega)
  unfold wpX_mark
  exact br_f (nI_pos (by omega)) (pk_lt e 24 (fun _ => br_f (nI_pos (by omega)) (pk_le v 2 (fun _ => ⟨pk_in e 24 he, nm_e ⟨pk_in e 24 he, nm_r (e' := upd a2 e (nI v)) (by rw [cl]) (H _)⟩⟩) (fun z => absurd z (by omega)))) (fun z => absurd z (by omega)))
theorem sl_clueM {v : Nat} (hi : i < 9) (hv : v ≤ 5) (H : ∀ x, post x (t, d, m, 0, f, upd a1 i (nI v), a2, a3, a4, a5, a6, s, te, pc, a10, a11, a12, a13)) : wpX_clue post (t, d, m, r, f, a1, a2, a3, a4, a5, a6, s, te, pc, a10, a11, a12, a13) (nI (i / 3)) (nI (i % 3)) (nI v) := by
  have ix : nI (i / 3) * 3 + nI (i % 3) = nI i := by
    rw [show (3 : Int32) = nI 3 from rfl, pk_mul, nI_add, show i / 3 * 3 + i % 3 = i by omega]
  have cl : (nI i).toNatClampNeg = i := nI_clamp (by omega)
  unfold wpX_clue
  rw [ix]
  exact br_f (nI_pos (by omega)) (pk_lt 2 (i / 3) (fun z => absurd z (by omega)) (fun _ => br_f (nI_pos (by omega)) (pk_le (i % 3) 2 (fun _ => br_f (nI_pos (by omega)) (pk_le v 5 (fun _ => ⟨pk_in i 9 hi, nm_e ⟨pk_in i 9 hi, nm_r (e' := upd a1 i (nI v)) (by rw [cl]) (H _)⟩⟩) (fun z => absurd z (by omega)))) (fun z => absurd z (by omega)))))
theorem sl_e0 : ∀ i, i < 9 → nI (i / 3) * 3 + nI (i % 3) = nI (sl_c (i * 4)) := by decide +kernel
theorem sl_e1 : ∀ i, i < 9 → nI (i / 3) * 3 + 3 + nI (i % 3) = nI (sl_c (i * 4 + 1)) := by decide +kernel
theorem sl_e2 : ∀ i, i < 9 → 12 + nI (i / 3) * 4 + nI (i % 3) = nI (sl_c (i * 4 + 2)) := by decide +kernel
theorem sl_e3 : ∀ i, i < 9 → 13 + nI (i / 3) * 4 + nI (i % 3) = nI (sl_c (i * 4 + 3)) := by decide +kernel
theorem sl_br (b : Bool) {A B : Prop} (h0 : b.toNat = 0 → A) (h1 : b.toNat = 1 → B) : (nI b.toNat = 0 → A) ∧ (¬ nI b.toNat = 0 → B) := by
  cases b with
  | true => exact br_f (by decide) (h1 rfl)
  | false => exact br_t rfl (h0 rfl)
theorem sl_ct_c {C : Nat → Bool} {q : Nat} (hq : q < 24) : sl_ct C q = (C q).toNat := by
  unfold sl_ct
  rw [decide_eq_true hq, Bool.true_and]
theorem sl_a71 {k z : Nat} (h : sl_rd c r f a2 a13 Ls) (hi : i < Ls.length) (hk : k < 9) (H : post (nI (z + sl_ct (Ls.getD i 0).testBit (sl_c (k * 4 + 3)))) (t, d, m, r, f, a1, a2, a3, a4, a5, a6, s, te, pc, a10, a11, a12, a13)) : wL_around_71 post (nI i) (nI (k / 3)) (nI (k % 3)) (nI z) t d m r f a1 a2 a3 a4 a5 a6 s te pc a10 a11 a12 a13 := by
  have hq := sl_c_lt (k * 4 + 3) (by omega)
  rw [sl_ct_c hq] at H
  unfold wL_around_71
  rw [sl_e3 k hk]
  refine sl_ch h hi hq ?_
  exact sl_br _ (fun y => by rw [y] at H; exact H) (fun y => by rw [y] at H; rw [nI_1]; exact H)
theorem sl_a44 {k z : Nat} (h : sl_rd c r f a2 a13 Ls) (hi : i < Ls.length) (hk : k < 9) (H : post (nI (z + sl_ct (Ls.getD i 0).testBit (sl_c (k * 4 + 2)) + sl_ct (Ls.getD i 0).testBit (sl_c (k * 4 + 3)))) (t, d, m, r, f, a1, a2, a3, a4, a5, a6, s, te, pc, a10, a11, a12, a13)) : wL_around_44 post (nI i) (nI (k / 3)) (nI (k % 3)) (nI z) t d m r f a1 a2 a3 a4 a5 a6 s te pc a10 a11 a12 a13 := by
  have hq := sl_c_lt (k * 4 + 2) (by omega)
  rw [sl_ct_c hq] at H
  unfold wL_around_44
  rw [sl_e2 k hk]
  refine sl_ch h hi hq ?_
  exact sl_br _ (fun y => by rw [y] at H; exact sl_a71 h hi hk H) (fun y => by rw [y] at H; rw [nI_1]; exact sl_a71 h hi hk H)
theorem sl_a18 {k z : Nat} (h : sl_rd c r f a2 a13 Ls) (hi : i < Ls.length) (hk : k < 9) (H : post (nI (z + sl_ct (Ls.getD i 0).testBit (sl_c (k * 4 + 1)) + sl_ct (Ls.getD i 0).testBit (sl_c (k * 4 + 2)) + sl_ct (Ls.getD i 0).testBit (sl_c (k * 4 + 3)))) (t, d, m, r, f, a1, a2, a3, a4, a5, a6, s, te, pc, a10, a11, a12, a13)) : wL_around_18 post (nI i) (nI (k / 3)) (nI (k % 3)) (nI z) t d m r f a1 a2 a3 a4 a5 a6 s te pc a10 a11 a12 a13 := by
  have hq := sl_c_lt (k * 4 + 1) (by omega)
  rw [sl_ct_c hq] at H
  unfold wL_around_18
  rw [sl_e1 k hk]
  refine sl_ch h hi hq ?_
  exact sl_br _ (fun y => by rw [y] at H; exact sl_a44 h hi hk H) (fun y => by rw [y] at H; rw [nI_1]; exact sl_a44 h hi hk H)
theorem sl_around {k : Nat} (h : sl_rd c r f a2 a13 Ls) (hi : i < Ls.length) (hk : k < 9) (H : post (nI (sl_n (Ls.getD i 0).testBit sl_c k)) (t, d, m, r, f, a1, a2, a3, a4, a5, a6, s, te, pc, a10, a11, a12, a13)) : wpL_around post (t, d, m, r, f, a1, a2, a3, a4, a5, a6, s, te, pc, a10, a11, a12, a13) (nI i) (nI (k / 3)) (nI (k % 3)) := by
  have hq := sl_c_lt (k * 4) (by omega)
  unfold sl_n at H
  rw [sl_ct_c hq] at H
  unfold wpL_around
  rw [sl_e0 k hk]
  refine sl_ch h hi hq ?_
  exact sl_br _ (fun y => by rw [y] at H; exact sl_a18 (z := 0) h hi hk H) (fun y => by rw [y] at H; exact sl_a18 (z := 1) h hi hk H)
end
end
section
/-- the edges of the points, as far as they are placed -/
def sl_pt (e i : Nat) : Int32 := if sl_p i < e then nI (sl_p i) else -1
theorem sl_tj : ∀ e, e < 24 → ∃ ka, ka < 4 ∧ ∃ kb, kb < 4 ∧ (sl_p (sl_A e * 4 + ka) = e ∧ sl_p (sl_B e * 4 + kb) = e ∧ (∀ j, j < ka → sl_p (sl_A e * 4 + j) < e) ∧ (∀ j, j < kb → sl_p (sl_B e * 4 + j) < e) ∧ sl_A e ≠ sl_B e ∧ ∀ i, i < 64 → sl_p i = e → i = sl_A e * 4 + ka ∨ i = sl_B e * 4 + kb) := by decide +kernel
theorem sl_h1 : ∀ e, e < 12 → nI e / 3 * 4 + (nI e - nI e / 3 * 3) = nI (sl_A e) ∧ nI e / 3 * 4 + (nI e - nI e / 3 * 3) + 1 = nI (sl_B e) := by decide +kernel
theorem sl_h2 : ∀ e, e < 24 → 12 ≤ e → nI e - 12 = nI (sl_A e) ∧ nI e - 8 = nI (sl_B e) := by decide +kernel
section
variable {post : St1 → Prop} {t d m r f : Int32} {a1 a2 a3 a4 a5 a6 s te pc a10 a11 a12 a13 : Nat → Int32} {mc ms kc ks : Nat}
theorem sl_jn2 {k p : Nat} {x : Int32} (hp : p < 16) (hk : k ≤ 3) (h1 : ∀ j, j < k → ¬ a6 (p * 4 + j) < 0) (h2 : a6 (p * 4 + k) < 0) (H : post (t, d, m, r, f, a1, a2, a3, a4, a5, upd a6 (p * 4 + k) x, s, te, pc, a10, a11, a12, a13)) : ∀ n i, i + n = 5 → i ≤ k → wX_join_2 post (nI p) x t d m r f a1 a2 a3 a4 a5 a6 s te pc a10 a11 a12 a13 n (nI i) := by
  intro n
  induction n with
  | zero => intro i g1 g2; omega
  | succ n ih =>
    intro i g1 g2
    by_cases e : i = k
    · subst e
      have fin : wX_join_26 post (nI p) x (nI i) t d m r f a1 a2 a3 a4 a5 a6 s te pc a10 a11 a12 a13 := by
        unfold wX_join_26
        exact ⟨pk_in (p * 4 + i) 64 (by omega) (sl_ix p i), nm_r (e' := upd a6 (p * 4 + i) x) (by rw [sl_cx (by omega)]) H⟩
      refine pk_le 3 i (fun _ => fin) (fun _ => ⟨pk_in (p * 4 + i) 64 (by omega) (sl_ix p i), ?_⟩)
      rw [sl_cx (by omega)]
      exact br_t h2 fin
    · refine pk_le 3 i (fun z => absurd z (by omega)) (fun _ => ⟨pk_in (p * 4 + i) 64 (by omega) (sl_ix p i), ?_⟩)
      rw [sl_cx (by omega)]
      exact br_f (h1 i (by omega)) (nm_r (nI_1 i) (ih (i + 1) (by omega) (by omega)))
theorem sl_jn {k p : Nat} {x : Int32} (hp : p < 16) (hk : k ≤ 3) (h1 : ∀ j, j < k → ¬ a6 (p * 4 + j) < 0) (h2 : a6 (p * 4 + k) < 0) (H : post (t, d, m, r, f, a1, a2, a3, a4, a5, upd a6 (p * 4 + k) x, s, te, pc, a10, a11, a12, a13)) : wpX_join post (t, d, m, r, f, a1, a2, a3, a4, a5, a6, s, te, pc, a10, a11, a12, a13) (nI p) x :=
  ⟨5, sl_jn2 hp hk h1 h2 H 5 0 (by omega) (by omega)⟩
theorem sl_pl {e : Nat} (he : e < 24) (h6 : ∀ i, i < 64 → a6 i = sl_pt e i) (H : ∀ a6', (∀ i, i < 64 → a6' i = sl_pt (e + 1) i) → post (t, d, m, r, f, a1, a2, upd a3 e (nI (sl_A e)), upd a4 e (nI (sl_B e)), a5, a6', s, te, pc, a10, a11, a12, a13)) : wpX_place post (t, d, m, r, f, a1, a2, a3, a4, a5, a6, s, te, pc, a10, a11, a12, a13) (nI e) (nI (sl_A e)) (nI (sl_B e)) := by
  obtain ⟨ka, ka4, kb, kb4, q1, q2, q3, q4, q5, q6⟩ := sl_tj e he
  have cl : (nI e).toNatClampNeg = e := nI_clamp (by omega)
  have hA := sl_A_lt e he
  have hB := sl_B_lt e he
  have lo : ∀ i, i < 64 → sl_p i < e → ¬ a6 i < 0 := fun i hi h => by
    rw [h6 i hi, show sl_pt e i = nI (sl_p i) from if_pos h]
    exact nI_pos (by omega)
  have hi : ∀ i, i < 64 → sl_p i = e → a6 i < 0 := fun i hi h => by
    rw [h6 i hi, show sl_pt e i = -1 from if_neg (by omega)]
    decide
  unfold wpX_place
  refine ⟨pk_in e 24 he, nm_r (e' := upd a3 e (nI (sl_A e))) (by rw [cl]) ⟨pk_in e 24 he, nm_r (e' := upd a4 e (nI (sl_B e))) (by rw [cl]) ?_⟩⟩
  refine sl_jn (k := ka) hA (by omega) (fun j hj => lo _ (by omega) (q3 j hj)) (hi _ (by omega) q1) ?_
  refine sl_jn (k := kb) hB (by omega) (fun j hj => ?_) ?_ ?_
  · rw [pk_un (by omega)]
    exact lo _ (by omega) (q4 j hj)
  · rw [pk_un (by omega)]
    exact hi _ (by omega) q2
  · refine H _ (fun i hi => ?_)
    by_cases x2 : i = sl_B e * 4 + kb
    · rw [x2, pk_us, show sl_pt (e + 1) (sl_B e * 4 + kb) = nI (sl_p (sl_B e * 4 + kb)) from if_pos (by omega), q2]
    · rw [pk_un x2]
      by_cases x1 : i = sl_A e * 4 + ka
      · rw [x1, pk_us, show sl_pt (e + 1) (sl_A e * 4 + ka) = nI (sl_p (sl_A e * 4 + ka)) from if_pos (by omega), q1]
      · rw [pk_un x1, h6 i hi]
        have ne : sl_p i ≠ e := fun z => by
          rcases q6 i hi z with y | y
          · exact x1 y
          · exact x2 y
        unfold sl_pt
        by_cases y : sl_p i < e
        · rw [if_pos y, if_pos (show sl_p i < e + 1 by omega)]
        · rw [if_neg y, if_neg (show ¬ sl_p i < e + 1 by omega)]
theorem sl_220 (H : ∀ a5, (∀ i, i < 36 → a5 i = nI (sl_c i)) → post (t, d, m, r, f, a1, a2, a3, a4, a5, a6, s, te, pc, a10, a11, a12, a13)) : ∀ n k a5, k + n = 10 → k ≤ 9 → (∀ j, j < k * 4 → a5 j = nI (sl_c j)) → wX_init_220 post mc ms kc ks t d m r f n (nI k) a1 a2 a3 a4 a5 a6 s te pc a10 a11 a12 a13 := by
  intro n
  induction n with
  | zero => intro k a5 h1 h2; omega
  | succ n ih =>
    intro k a5 h1 h2 hz
    refine pk_le 9 k (fun h => H a5 (fun i hi => hz i (by omega))) (fun h => ?_)
    have hk : k < 9 := by omega
    refine ⟨by decide, nm_r (e' := nI (k / 3)) (pk_div (d := 3) (by omega) (by omega) (by omega)) ⟨by decide, nm_r (e' := nI (k % 3)) (pk_rem (d := 3) (by omega) (by omega) (by omega)) ?_⟩⟩
    refine ⟨pk_in (k * 4) 36 (by omega) (pk_mul k 4), nm_r (e' := upd a5 (k * 4) (nI (sl_c (k * 4)))) ?_ ?_⟩
    · rw [show nI k * 4 = nI (k * 4) from pk_mul k 4, nI_clamp (show k * 4 < 2 ^ 31 by omega), sl_e0 k hk]
    refine ⟨pk_in (k * 4 + 1) 36 (by omega) (sl_ix k 1), nm_r (e' := upd (upd a5 (k * 4) (nI (sl_c (k * 4)))) (k * 4 + 1) (nI (sl_c (k * 4 + 1)))) ?_ ?_⟩
    · rw [show nI k * 4 + 1 = nI (k * 4 + 1) from sl_ix k 1, nI_clamp (show k * 4 + 1 < 2 ^ 31 by omega), sl_e1 k hk]
    refine ⟨pk_in (k * 4 + 2) 36 (by omega) (sl_ix k 2), nm_r (e' := upd (upd (upd a5 (k * 4) (nI (sl_c (k * 4)))) (k * 4 + 1) (nI (sl_c (k * 4 + 1)))) (k * 4 + 2) (nI (sl_c (k * 4 + 2)))) ?_ ?_⟩
    · rw [show nI k * 4 + 2 = nI (k * 4 + 2) from sl_ix k 2, nI_clamp (show k * 4 + 2 < 2 ^ 31 by omega), sl_e2 k hk]
    refine ⟨pk_in (k * 4 + 3) 36 (by omega) (sl_ix k 3), nm_r (e' := upd (upd (upd (upd a5 (k * 4) (nI (sl_c (k * 4)))) (k * 4 + 1) (nI (sl_c (k * 4 + 1)))) (k * 4 + 2) (nI (sl_c (k * 4 + 2)))) (k * 4 + 3) (nI (sl_c (k * 4 + 3)))) ?_ ?_⟩
    · rw [show nI k * 4 + 3 = nI (k * 4 + 3) from sl_ix k 3, nI_clamp (show k * 4 + 3 < 2 ^ 31 by omega), sl_e3 k hk]
    refine nm_r (nI_1 k) (ih (k + 1) _ (by omega) (by omega) (fun j hj => ?_))
    by_cases y3 : j = k * 4 + 3
    · rw [y3, pk_us]
    · rw [pk_un y3]
      by_cases y2 : j = k * 4 + 2
      · rw [y2, pk_us]
      · rw [pk_un y2]
        by_cases y1 : j = k * 4 + 1
        · rw [y1, pk_us]
        · rw [pk_un y1]
          by_cases y0 : j = k * 4
          · rw [y0, pk_us]
          · rw [pk_un y0]
            exact hz j (by omega)
theorem sl_fillN {g : Nat → Nat} {a : Nat → Int32} {e : Nat} (h : ∀ j, j < e → a j = nI (g j)) : ∀ j, j < e + 1 → upd a e (nI (g e)) j = nI (g j) := by
  intro j hj
  by_cases y : j = e
  · rw [y, pk_us]
  · rw [pk_un y]
    exact h j (by omega)
theorem sl_193 (H : ∀ a3 a4 a5 a6, sl_bd a3 a4 a5 a6 → post (t, d, m, r, f, a1, a2, a3, a4, a5, a6, s, te, pc, a10, a11, a12, a13)) : ∀ n e a3 a4 a6, e + n = 25 → 12 ≤ e → e ≤ 24 → (∀ j, j < e → a3 j = nI (sl_A j)) → (∀ j, j < e → a4 j = nI (sl_B j)) → (∀ i, i < 64 → a6 i = sl_pt e i) → wX_init_193 post mc ms kc ks n (nI e) t d m r f a1 a2 a3 a4 a5 a6 s te pc a10 a11 a12 a13 := by
  intro n
  induction n with
  | zero => intro e a3 a4 a6 h1 h2 h3; omega
  | succ n ih =>
    intro e a3 a4 a6 h1 h2 h3 g3 g4 g6
    refine pk_le 24 e (fun h => ?_) (fun h => ?_)
    · have e2 : e = 24 := by omega
      subst e2
      exact ⟨10, sl_220 (fun a5 h5 => H a3 a4 a5 a6 ⟨g3, g4, h5, g6⟩) 10 0 a5 (by omega) (by omega) (fun j hj => absurd hj (by omega))⟩
    · have he : e < 24 := by omega
      rw [(sl_h2 e he h2).1, (sl_h2 e he h2).2]
      refine sl_pl he g6 (fun a6' h6 => ?_)
      exact nm_r (nI_1 e) (ih (e + 1) _ _ _ (by omega) (by omega) (by omega) (sl_fillN g3) (sl_fillN g4) h6)
theorem sl_153 (H : ∀ a3 a4 a5 a6, sl_bd a3 a4 a5 a6 → post (t, d, m, r, f, a1, a2, a3, a4, a5, a6, s, te, pc, a10, a11, a12, a13)) : ∀ n e a3 a4 a6, e + n = 13 → e ≤ 12 → (∀ j, j < e → a3 j = nI (sl_A j)) → (∀ j, j < e → a4 j = nI (sl_B j)) → (∀ i, i < 64 → a6 i = sl_pt e i) → wX_init_153 post mc ms kc ks n (nI e) t d m r f a1 a2 a3 a4 a5 a6 s te pc a10 a11 a12 a13 := by
  intro n
  induction n with
  | zero => intro e a3 a4 a6 h1 h2; omega
  | succ n ih =>
    intro e a3 a4 a6 h1 h3 g3 g4 g6
    refine pk_le 12 e (fun h => ?_) (fun h => ⟨by decide, by decide, by decide, by decide, ?_⟩)
    · have e2 : e = 12 := by omega
      subst e2
      exact ⟨13, sl_193 H 13 12 a3 a4 a6 (by omega) (by omega) (by omega) g3 g4 g6⟩
    · have he : e < 12 := by omega
      rw [(sl_h1 e he).2, (sl_h1 e he).1]
      refine sl_pl (by omega) g6 (fun a6' h6 => ?_)
      exact nm_r (nI_1 e) (ih (e + 1) _ _ _ (by omega) (by omega) (sl_fillN g3) (sl_fillN g4) h6)
theorem sl_132 (H : ∀ a3 a4 a5 a6, sl_bd a3 a4 a5 a6 → post (t, d, m, r, f, a1, a2, a3, a4, a5, a6, s, te, pc, a10, a11, a12, a13)) : ∀ n k a6, k + n = 65 → k ≤ 64 → (∀ j, j < k → a6 j = -1) → wX_init_132 post mc ms kc ks t d m r f n (nI k) a1 a2 a3 a4 a5 a6 s te pc a10 a11 a12 a13 := by
  intro n
  induction n with
  | zero => intro k a6 h1 h2; omega
  | succ n ih =>
    intro k a6 h1 h2 hz
    refine pk_le 64 k (fun h => ⟨13, sl_153 H 13 0 a3 a4 a6 (by omega) (by omega) (fun j hj => absurd hj (by omega)) (fun j hj => absurd hj (by omega)) (fun i hi => ?_)⟩) (fun h => ⟨pk_in k 64 (by omega), nm_r (e' := upd a6 k (-1)) (by rw [nI_clamp (show k < 2 ^ 31 by omega)]) (nm_r (nI_1 k) (ih (k + 1) _ (by omega) (by omega) (fun j hj => ?_)))⟩)
    · rw [hz i (by omega)]
      exact (if_neg (Nat.not_lt_zero _)).symm
    · by_cases y : j = k
      · rw [y, pk_us]
      · rw [pk_un y]
        exact hz j (by omega)
theorem sl_111 (H : ∀ a1 a3 a4 a5 a6, (∀ i, i < 9 → a1 i = nI 5) → sl_bd a3 a4 a5 a6 → post (t, d, m, r, f, a1, a2, a3, a4, a5, a6, s, te, pc, a10, a11, a12, a13)) : ∀ n k a1, k + n = 10 → k ≤ 9 → (∀ j, j < k → a1 j = nI 5) → wX_init_111 post mc ms kc ks t d m r f n (nI k) a1 a2 a3 a4 a5 a6 s te pc a10 a11 a12 a13 := by
  intro n
  induction n with
  | zero => intro k a1 h1 h2; omega
  | succ n ih =>
    intro k a1 h1 h2 hz
    refine pk_le 9 k (fun h => ⟨65, sl_132 (fun a3 a4 a5 a6 hb => H a1 a3 a4 a5 a6 (fun i hi => hz i (by omega)) hb) 65 0 a6 (by omega) (by omega) (fun j hj => absurd hj (by omega))⟩) (fun h => ⟨pk_in k 9 (by omega), nm_r (e' := upd a1 k (nI 5)) (by rw [nI_clamp (show k < 2 ^ 31 by omega)]; rfl) (nm_r (nI_1 k) (ih (k + 1) _ (by omega) (by omega) (fun j hj => ?_)))⟩)
    by_cases y : j = k
    · rw [y, pk_us]
    · rw [pk_un y]
      exact hz j (by omega)
theorem sl_init (H : ∀ a1 a3 a4 a5 a6, (∀ i, i < 9 → a1 i = nI 5) → sl_bd a3 a4 a5 a6 → post (t, d, m, r, f, a1, fun _ => 0, a3, a4, a5, a6, fun _ => 0, fun _ => 0, fun _ => 0, fun _ => 0, fun _ => 0, fun _ => 0, fun _ => 0)) : wpX_init post 13 576 (t, d, m, r, f) := by
  unfold wpX_init
  refine ⟨by decide, by decide, by decide, by decide, by decide, by decide, by decide, by decide, by decide, by decide, by decide, by decide, by decide, by decide, by decide, by decide, by decide, by decide, by decide, by decide, by decide, by decide, by decide, by decide, by decide, by decide, ?_⟩
  exact ⟨10, sl_111 H 10 0 _ (by omega) (by omega) (fun j hj => absurd hj (by omega))⟩
end
end
section
theorem sl_lshl (x S : Int64) (k : Nat) (hS : (S.toBitVec.smod 64).toNat = k) {q : Nat} (hq : q < 64) : (x <<< S).toBitVec.getLsbD q = (decide (k ≤ q) && x.toBitVec.getLsbD (q - k)) := by
  rw [Int64.toBitVec_shiftLeft]
  show (x.toBitVec <<< (S.toBitVec.smod 64).toNat).getLsbD q = _
  rw [hS, BitVec.getLsbD_shiftLeft]
  rcases Nat.lt_or_ge q k with h | h
  · simp [h, Nat.not_le.mpr h]
  · simp [hq, h, Nat.not_lt.mpr h]
theorem sl_lshr (x S : Int64) (k : Nat) (hS : (S.toBitVec.smod 64).toNat = k) {b : Nat} (hb : k + b < 64) : (x >>> S).toBitVec.getLsbD b = x.toBitVec.getLsbD (k + b) := by
  rw [Int64.toBitVec_shiftRight]
  show (x.toBitVec.sshiftRight (S.toBitVec.smod 64).toNat).getLsbD b = _
  rw [hS, BitVec.getLsbD_sshiftRight, if_pos hb]
  have h : ¬ 64 ≤ b := by omega
  simp [h]
theorem sl_s3 : ∀ i, i < 9 → (((3 * nI i).toInt64 &&& 63).toBitVec.smod 64).toNat = 3 * i := by decide +kernel
theorem sl_s2 : ∀ e, e < 24 → (((2 * nI e).toInt64 &&& 63).toBitVec.smod 64).toNat = 2 * e := by decide +kernel
theorem sl_m7 : ∀ b, b < 64 → (7 : Int64).toBitVec.getLsbD b = decide (b < 3) := by decide +kernel
theorem sl_m3 : ∀ b, b < 64 → (3 : Int64).toBitVec.getLsbD b = decide (b < 2) := by decide +kernel
theorem sl_mm : ∀ b, b < 64 → (-1 : Int64).toBitVec.getLsbD b = true := by decide +kernel
theorem sl_lb {u b : Nat} (hb : b < 64) : (lN u).toBitVec.getLsbD b = u.testBit b := by
  show (BitVec.ofNat 64 u).getLsbD b = _
  rw [BitVec.getLsbD_ofNat, decide_eq_true hb, Bool.true_and]
/-- w bits at place i hold v -/
def sl_bf (w : Nat) (x : Int64) (i v : Nat) : Prop := ∀ b, b < w → x.toBitVec.getLsbD (w * i + b) = v.testBit b
theorem sl_hi {u w b : Nat} (hu : u < 2 ^ w) (h : w ≤ b) : u.testBit b = false :=
  Nat.testBit_lt_two_pow (Nat.lt_of_lt_of_le hu (Nat.pow_le_pow_right (by omega) h))
theorem sl_bf_get {w i v : Nat} {x S M : Int64} (hS : (S.toBitVec.smod 64).toNat = w * i) (hw : w * i + w ≤ 64) (hM : ∀ b, b < 64 → M.toBitVec.getLsbD b = decide (b < w)) (hv : v < 2 ^ w) (h : sl_bf w x i v) : (x >>> S) &&& M = lN v := by
  apply Int64.toBitVec_inj.mp
  apply BitVec.eq_of_getLsbD_eq
  intro b hb
  rw [Int64.toBitVec_and, BitVec.getLsbD_and, hM b hb, sl_lb hb]
  by_cases hbw : b < w
  · rw [sl_lshr x S _ hS (by omega), h b hbw, decide_eq_true hbw, Bool.and_true]
  · rw [decide_eq_false hbw, Bool.and_false, sl_hi hv (by omega)]
theorem sl_bf_set {w i j v u : Nat} {x S M y : Int64} (hS : (S.toBitVec.smod 64).toNat = w * j) (hM : ∀ b, b < 64 → M.toBitVec.getLsbD b = decide (b < w)) (hy : y = lN u) (hu : u < 2 ^ w) (hi : w * i + w ≤ 64) (h : i ≠ j → sl_bf w x i v) (hv : i = j → v = u) : sl_bf w ((x &&& ((M <<< S) ^^^ (-1))) ||| (y <<< S)) i v := by
  intro b hb
  have hq : w * i + b < 64 := by omega
  rw [Int64.toBitVec_or, Int64.toBitVec_and, Int64.toBitVec_xor, BitVec.getLsbD_or, BitVec.getLsbD_and, BitVec.getLsbD_xor, sl_lshl M S _ hS hq, sl_lshl y S _ hS hq, sl_mm _ hq, hy]
  by_cases e : i = j
  · have e2 := hv e
    subst e
    rw [decide_eq_true (show w * i ≤ w * i + b by omega), show w * i + b - w * i = b by omega, hM b (by omega), sl_lb (by omega), decide_eq_true hb, e2]
    simp
  · rcases Nat.lt_or_ge (w * i + b) (w * j) with g | g
    · rw [decide_eq_false (show ¬ w * j ≤ w * i + b by omega), h e b hb]
      simp
    · have g2 : w * j + w ≤ w * i := by
        rcases Nat.lt_or_ge i j with z | z
        · have k1 := Nat.mul_le_mul_left w (show i + 1 ≤ j from z)
          rw [Nat.mul_add, Nat.mul_one] at k1
          omega
        · have k1 := Nat.mul_le_mul_left w (show j + 1 ≤ i by omega)
          rw [Nat.mul_add, Nat.mul_one] at k1
          exact k1
      rw [hM _ (by omega), sl_lb (by omega), decide_eq_false (show ¬ w * i + b - w * j < w by omega), sl_hi hu (show w ≤ w * i + b - w * j by omega), h e b hb]
      simp
/-- the law's first clues: none -/
def sl_X : Nat → Int64
  | 0 => 0
  | k + 1 => sl_X k ||| ((5 : Int64) <<< ((3 * nI k).toInt64 &&& 63))
theorem sl_X9 : ∀ i, i < 9 → ∀ b, b < 3 → (sl_X 9).toBitVec.getLsbD (3 * i + b) = (5 : Nat).testBit b := by decide +kernel
theorem sl_Y0 : ∀ e, e < 24 → ∀ b, b < 2 → (0 : Int64).toBitVec.getLsbD (2 * e + b) = (0 : Nat).testBit b := by decide +kernel
theorem sl_md (x : Int32) (q : Nat) (h0 : 0 < q) (hq : q < 2 ^ 31) : ∃ j, j < q ∧ (x &&& 2147483647) - (x &&& 2147483647) / nI q * nI q = nI j := by
  refine ⟨x.toBitVec.toNat % 2 ^ 31 % q, Nat.mod_lt _ h0, ?_⟩
  rw [pk_and x 31 (by decide)]
  exact pk_rem (Nat.mod_lt _ (by decide)) h0 hq
theorem sl_md8 (x : Int32) (q : Nat) (h0 : 0 < q) (hq : q < 2 ^ 31) : ∃ j, j < q ∧ (x &&& 255) - (x &&& 255) / nI q * nI q = nI j := by
  refine ⟨x.toBitVec.toNat % 2 ^ 8 % q, Nat.mod_lt _ h0, ?_⟩
  rw [pk_and x 8 (by decide)]
  exact pk_rem (Nat.lt_of_lt_of_le (Nat.mod_lt _ (by decide)) (by decide)) h0 hq
end
section
section
variable {post : Int32 → Prop} {L : Nat} {xs : Nat → Int32} {c : Nat → Nat} {t d m r f : Int32} {a1 a2 a3 a4 a5 a6 s te pc a10 a11 a12 a13 : Nat → Int32} {kc ks : Nat} {x2 x4 : Int64} {x6 : Int32} {Ls : List Nat}
/-- the marks, as the law keeps them -/
def sl_ms (x4 : Int64) (a2 : Nat → Int32) : Prop := ∀ e, e < 24 → ∃ v, v ≤ 2 ∧ a2 e = nI v ∧ sl_bf 2 x4 e v
theorem sl_l273 {J : Int32 → Int32 → Int32 → Int32 → Int32 → Int32 → (Nat → Int32) → (Nat → Int32) → (Nat → Int32) → (Nat → Int32) → (Nat → Int32) → (Nat → Int32) → (Nat → Int32) → (Nat → Int32) → (Nat → Int32) → (Nat → Int32) → (Nat → Int32) → (Nat → Int32) → (Nat → Int32) → Prop} {i : Nat}
    (h : sl_rd c r f a2 a13 Ls) (hi : i < Ls.length) (hx : ∀ k, k < 9 → sl_bf 3 x2 k (c k)) (hc : ∀ k, k < 9 → c k ≤ 5) (H : J (nI (i + 1)) t d m r f a1 a2 a3 a4 a5 a6 s te pc a10 a11 a12 a13) :
    ∀ n k, k + n = 10 → k ≤ 9 → wL_law_273 post L xs J x2 x4 x6 (nI i) kc ks n (nI k) t d m r f a1 a2 a3 a4 a5 a6 s te pc a10 a11 a12 a13 := by
  intro n
  induction n with
  | zero => intro k h1 h2; omega
  | succ n ih =>
    intro k h1 h2
    refine pk_le 9 k (fun _ => nm_r (nI_1 i) H) (fun z => ?_)
    have hk : k < 9 := by omega
    have h5 := hc k hk
    have I := ih (k + 1) (by omega) (by omega)
    have cg := (sl_rd_mem h hi).2 k hk
    have hn := sl_n_le (Ls.getD i 0).testBit sl_c k
    refine nm_r (e' := nI (c k)) (by rw [sl_bf_get (sl_s3 k hk) (by omega) sl_m7 (by omega) (hx k hk), lN_i]) ⟨by decide, by decide, ?_⟩
    rw [show nI k - nI k / 3 * 3 = nI (k % 3) from pk_rem (d := 3) (by omega) (by omega) (by omega), show nI k / 3 = nI (k / 3) from pk_div (d := 3) (by omega) (by omega) (by omega)]
    refine sl_around h hi hk ?_
    exact pk_eq (c k) 5 (fun _ => nm_r (nI_1 k) I) (fun y => pk_eq (sl_n (Ls.getD i 0).testBit sl_c k) (c k) (fun _ => nm_r (nI_1 k) I) (fun w => absurd (cg.resolve_left y) w))
theorem sl_cell {post : Int32 → Prop} (hL : L ≤ 260) (H : ∀ y, post y) : wpL_cell post L xs () 0 := by
  unfold wpL_cell
  exact pk_le L 0 (fun _ => H 0) (fun z => ⟨pk_in 0 L z, H _⟩)
theorem sl_l213 (hL : L ≤ 260) (ho : sl_ob c a1 a2 a3 a4 a5 a6) (h : sl_rd c r f a2 a13 Ls) (hx : ∀ k, k < 9 → sl_bf 3 x2 k (c k)) (hm : sl_ms x4 a2) (H : post 1) :
    ∀ n k, k + n = 214 → k ≤ 213 → wL_law_213 post L xs x2 x4 (nI Ls.length) kc ks n (nI k) t d m r f a1 a2 a3 a4 a5 a6 s te pc a10 a11 a12 a13 := by
  have hl := sl_rd_len h
  intro n
  induction n with
  | zero => intro k h1 h2; omega
  | succ n ih =>
    intro k h1 h2
    refine pk_le 213 k (fun _ => ?_) (fun z => ?_)
    · refine sl_cell hL (fun y => ⟨by decide, ?_⟩)
      obtain ⟨e, he, ee⟩ := sl_md y 24 (by omega) (by omega)
      refine nm_r ee ?_
      obtain ⟨v, hv, hv2, hv4⟩ := hm e he
      rw [sl_bf_get (sl_s2 e he) (by omega) sl_m3 (by omega) hv4]
      have last : (213 < nI Ls.length → post 0) ∧ (¬ 213 < nI Ls.length → post 1) := pk_lt 213 Ls.length (fun w => absurd w (by omega)) (fun _ => H)
      by_cases v0 : v = 0
      · subst v0
        have h0 : a2 e = 0 := hv2
        have ho1 : sl_ob c a1 (upd a2 e (nI 1)) a3 a4 a5 a6 := ⟨ho.1, ho.2.1, fun j hj => by
          by_cases w : j = e
          · rw [w, pk_us]
            exact Or.inr (Or.inl rfl)
          · rw [pk_un w]
            exact ho.2.2 j hj⟩
        have ho2 : sl_ob c a1 (upd (upd a2 e (nI 1)) e (nI 2)) a3 a4 a5 a6 := ⟨ho.1, ho.2.1, fun j hj => by
          by_cases w : j = e
          · rw [w, pk_us]
            exact Or.inr (Or.inr rfl)
          · rw [pk_un w, pk_un w]
            exact ho.2.2 j hj⟩
        have uu : upd (upd a2 e (nI 1)) e (nI 2) = upd a2 e 2 := by
          funext j
          by_cases w : j = e
          · rw [w, pk_us, pk_us]
            rfl
          · rw [pk_un w, pk_un w, pk_un w]
        refine br_t rfl ?_
        refine sl_votes h he ?_
        refine sl_mark (v := 1) he (by omega) (fun x => ?_)
        refine sl_sol ho1 rfl (fun t1 d1 m1 f1 s1 te1 pc1 b10 b11 b12 b13 L1 h1 => ?_)
        have l1 := sl_rd_len h1
        have sp := sl_sols_len c he h0
        have vt := sl_sols_votes c he h0
        rw [← h.2.2.countP_eq] at vt
        have l1a : L1.length = (sl_sols c (upd a2 e 1)).length := l1.1
        refine br_t (by rw [h1.2.1.1, l1a, vt]) ?_
        refine sl_mark (v := 2) he (by omega) (fun x => ?_)
        refine sl_sol ho2 rfl (fun t2 d2 m2 f2 s2 te2 pc2 e10 e11 e12 e13 L2 h2 => ?_)
        have l2 := sl_rd_len h2
        rw [uu] at l2
        refine br_t ?_ last
        rw [h2.2.1.1, pk_sub (by omega)]
        congr 1
        omega
      · refine br_f (fun w => v0 ?_) last
        have w2 : lN v = lN 0 := w
        exact (lN_eq (by omega) (by omega)).mp w2
    · have I := ih (k + 1) (by omega) (by omega)
      refine pk_le Ls.length k (fun _ => nm_r (nI_1 k) I) (fun hk => ?_)
      have g := sl_g_law _ (sl_rd_mem h hk).1
      refine sl_length h hk ?_
      refine sl_inside h hk ?_
      refine ⟨by decide, br_t ?_ (pk_lt (sl_inr (Ls.getD k 0) 3 0 0) 1 (fun w => absurd w (by omega)) (fun _ => pk_le (sl_ones (Ls.getD k 0) 24) (2 * sl_inr (Ls.getD k 0) 3 0 0 + 2) (fun _ => ⟨10, sl_l273 h hk hx (fun j hj => (ho.2.1 j hj).2) (ih (k + 1) (by omega) (by omega)) 10 0 (by omega) (by omega)⟩) (fun w => absurd w (by omega)) (hy := ?_)))⟩
      · rw [show nI (sl_ones (Ls.getD k 0) 24) - nI (sl_ones (Ls.getD k 0) 24) / 2 * 2 = nI (sl_ones (Ls.getD k 0) 24 % 2) from pk_rem (d := 2) (by omega) (by omega) (by omega), g.1]
        rfl
      · rw [show (2 : Int32) = nI 2 from rfl, pk_mul, nI_add]
theorem sl_l43 (hL : L ≤ 260) (H : post 1) : ∀ n k c x2 x4 a1 a2, L + 3 ≤ n + k → k ≤ L + 2 → sl_ob c a1 a2 a3 a4 a5 a6 → (∀ i, i < 9 → sl_bf 3 x2 i (c i)) → sl_ms x4 a2 → ∀ r, r = 0 → wL_law_43 post L xs kc ks n x2 x4 (nI k) t d m r f a1 a2 a3 a4 a5 a6 s te pc a10 a11 a12 a13 := by
  intro n
  induction n with
  | zero => intro k c x2 x4 a1 a2 h1 h2; omega
  | succ n ih =>
    intro k c x2 x4 a1 a2 h1 h2 ho hx hm r hr
    refine pk_le L (k + 1) (fun _ => ?_) (fun z => ?_) (hy := nI_1 k)
    · refine sl_sol ho hr (fun t1 d1 m1 f1 s1 te1 pc1 b10 b11 b12 b13 Ls h => ⟨214, ?_⟩)
      rw [h.2.1.1]
      refine sl_l213 hL ho ?_ hx hm H 214 0 (by omega) (by omega)
      exact ⟨h.1, ⟨rfl, h.2.1.2⟩, h.2.2⟩
    · have k2 : nI k + 2 = nI (k + 2) := nI_add k 2
      obtain ⟨j, hj, ej⟩ := sl_md (xs (nI k + 1).toNatClampNeg) 9 (by omega) (by omega)
      obtain ⟨e, he, ee⟩ := sl_md (xs (nI k + 1).toNatClampNeg) 24 (by omega) (by omega)
      obtain ⟨v, hv, ev⟩ := sl_md8 (xs (nI k).toNatClampNeg >>> ((2 : Int32) &&& 31)) 6 (by omega) (by omega)
      refine ⟨pk_in (k + 1) L z (nI_1 k), by decide, nm_r ej ⟨pk_in (k + 1) L z (nI_1 k), by decide, nm_r ee ⟨pk_in k L (by omega), by decide, nm_r ev ⟨pk_in k L (by omega), br_c (fun _ => ⟨by decide, by decide, ?_⟩) (fun _ => ⟨pk_in k L (by omega), br_c (fun _ => ⟨by decide, ?_⟩) (fun _ => nm_r k2 (ih (k + 2) c x2 x4 a1 a2 (by omega) (by omega) ho hx hm r hr))⟩)⟩⟩⟩⟩
      · rw [show nI j - nI j / 3 * 3 = nI (j % 3) from pk_rem (d := 3) (by omega) (by omega) (by omega), show nI j / 3 = nI (j / 3) from pk_div (d := 3) (by omega) (by omega) (by omega)]
        refine sl_clueM hj (by omega) (fun x => ?_)
        refine nm_e (nm_r k2 (ih (k + 2) (fun i => if i = j then v else c i) _ x4 _ a2 (by omega) (by omega) ⟨ho.1, fun i hi => ?_, ho.2.2⟩ (fun i hi => ?_) hm 0 rfl))
        · show upd a1 j (nI v) i = nI (if i = j then v else c i) ∧ (if i = j then v else c i) ≤ 5
          by_cases w : i = j
          · rw [if_pos w, w, pk_us]
            exact ⟨rfl, by omega⟩
          · rw [if_neg w, pk_un w]
            exact ho.2.1 i hi
        · refine sl_bf_set (sl_s3 j hj) sl_m7 (nI_l (by omega)) (show v < 2 ^ 3 by omega) (by omega) (fun w => ?_) (fun w => if_pos w)
          show sl_bf 3 x2 i (if i = j then v else c i)
          rw [if_neg w]
          exact hx i hi
      · rw [show nI v - nI v / 3 * 3 = nI (v % 3) from pk_rem (d := 3) (by omega) (by omega) (by omega)]
        refine sl_mark he (by omega) (fun x => ⟨by decide, ?_⟩)
        refine nm_e (nm_r k2 (ih (k + 2) c x2 _ a1 _ (by omega) (by omega) ⟨ho.1, ho.2.1, fun i hi => ?_⟩ hx (fun i hi => ?_) 0 rfl))
        · by_cases w : i = e
          · rw [w, pk_us]
            rcases (show v % 3 = 0 ∨ v % 3 = 1 ∨ v % 3 = 2 by omega) with q | q | q <;> rw [q]
            · exact Or.inl rfl
            · exact Or.inr (Or.inl rfl)
            · exact Or.inr (Or.inr rfl)
          · rw [pk_un w]
            exact ho.2.2 i hi
        · by_cases w : i = e
          · exact ⟨v % 3, by omega, by rw [w, pk_us], sl_bf_set (sl_s2 e he) sl_m3 (nI_l (by omega)) (show v % 3 < 2 ^ 2 by omega) (by omega) (fun q => absurd w q) (fun _ => rfl)⟩
          · obtain ⟨u, u1, u2, u3⟩ := hm i hi
            exact ⟨u, u1, by rw [pk_un w]; exact u2, sl_bf_set (sl_s2 e he) sl_m3 (nI_l (by omega)) (show v % 3 < 2 ^ 2 by omega) (by omega) (fun _ => u3) (fun q => absurd q w)⟩
theorem sl_l13 (H : ∃ fu, wL_law_43 post L xs kc ks fu (sl_X 9) 0 2 t d m r f a1 a2 a3 a4 a5 a6 s te pc a10 a11 a12 a13) : ∀ n k, k + n = 10 → k ≤ 9 → wL_law_13 post L xs kc ks t d m r f a1 a2 a3 a4 a5 a6 s te pc a10 a11 a12 a13 n (sl_X k) (nI k) := by
  intro n
  induction n with
  | zero => intro k h1 h2; omega
  | succ n ih =>
    intro k h1 h2
    refine pk_le 9 k (fun z => ?_) (fun z => nm_r (e' := sl_X (k + 1)) rfl (nm_r (nI_1 k) (ih (k + 1) (by omega) (by omega))))
    have e : k = 9 := by omega
    subst e
    exact H
end
theorem i_vc (xs : Nat → Int32) (L : Nat) (hL : L ≤ 260) : wpL_law (fun r => r = 1) L xs := by
  unfold wpL_law
  refine ⟨13, 576, by omega, by omega, sl_init (fun a1 a3 a4 a5 a6 h1 hb => ⟨10, sl_l13 ⟨L + 1, ?_⟩ 10 0 (by omega) (by omega)⟩)⟩
  exact sl_l43 (post := fun r => r = 1) hL rfl (L + 1) 2 (fun _ => 5) (sl_X 9) 0 a1 (fun _ => 0) (by omega) (by omega) ⟨hb, fun i hi => ⟨h1 i hi, Nat.le_refl 5⟩, fun e _ => Or.inl rfl⟩ (fun i hi b hb => sl_X9 i hi b hb) (fun e he => ⟨0, by omega, rfl, fun b hb => sl_Y0 e he b hb⟩) 0 rfl
end
