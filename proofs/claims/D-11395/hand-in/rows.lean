section
/-- a value's number among the places of its key -/
def gc_w (v : Int32) : Nat := (v.toInt + 2147483648).toNat
theorem gc_w_i (v : Int32) : (gc_w v : Int) = v.toInt + 2147483648 ∧ gc_w v < 4294967296 := by
  have h1 := v.toInt_lt
  have h2 := v.le_toInt
  unfold gc_w
  omega
/-- the place of key j, value v -/
def gc_pl (j : Nat) (v : Int32) : Int64 := lN (j * 4294967296 + gc_w v)
/-- the value of a place -/
def gc_val (p : Int64) : Int32 := ((p &&& 4294967295) - 2147483648).toInt32
theorem gc_sh : ∀ j, j < 9 → (nI j).toInt64 <<< ((32 : Int32).toInt64 &&& 63) = lN (j * 4294967296) := by decide +kernel
theorem gc_off (v : Int32) : v.toInt64 + 2147483648 = lN (gc_w v) := by
  obtain ⟨h1, h2⟩ := gc_w_i v
  apply Int64.toInt_inj.mp
  rw [Int64.toInt_add, Int32.toInt_toInt64, pk_lT (by omega), h1, show (2147483648 : Int64).toInt = 2147483648 from rfl]
  exact Int.bmod_eq_of_le (by omega) (by omega)
theorem gc_place {j : Nat} (hj : j < 8) (v : Int32) : (((nI j).toInt64 <<< ((32 : Int32).toInt64 &&& 63)) + v.toInt64) + 2147483648 = gc_pl j v := by
  rw [gc_sh j (by omega), Int64.add_assoc, gc_off, lN_add]
  rfl
theorem gc_start {j : Nat} (hj : j < 8) : (((nI j).toInt64 <<< ((32 : Int32).toInt64 &&& 63)) + (-2147483648 : Int32).toInt64) + 2147483648 = lN (j * 4294967296) := by
  rw [gc_place hj]
  unfold gc_pl
  rw [show gc_w (-2147483648) = 0 from by decide, Nat.add_zero]
theorem gc_end {j : Nat} (hj : j < 8) : (nI j + 1).toInt64 <<< ((32 : Int32).toInt64 &&& 63) = lN ((j + 1) * 4294967296) := by
  rw [nI_1, gc_sh (j + 1) (by omega)]
theorem gc_mask (n : Nat) (hn : n < 2 ^ 63) : lN n &&& 4294967295 = lN (n % 4294967296) := by
  apply Int64.toBitVec_inj.mp
  rw [Int64.toBitVec_and]
  apply BitVec.eq_of_toNat_eq
  rw [BitVec.toNat_and]
  show (BitVec.ofNat 64 n).toNat &&& (2 ^ 32 - 1 : Nat) = (BitVec.ofNat 64 (n % 4294967296)).toNat
  rw [BitVec.toNat_ofNat, BitVec.toNat_ofNat, Nat.mod_eq_of_lt (show n < 2 ^ 64 by omega), Nat.mod_eq_of_lt (show n % 4294967296 < 2 ^ 64 by omega)]
  exact Nat.and_two_pow_sub_one_eq_mod n 32
theorem gc_valp {j : Nat} (hj : j < 8) (v : Int32) : gc_val (gc_pl j v) = v := by
  obtain ⟨h1, h2⟩ := gc_w_i v
  have h3 := v.toInt_lt
  have h4 := v.le_toInt
  unfold gc_val gc_pl
  rw [gc_mask _ (by omega), show (j * 4294967296 + gc_w v) % 4294967296 = gc_w v by omega]
  apply Int32.toInt_inj.mp
  rw [Int64.toInt_toInt32, Int64.toInt_sub, pk_lT (by omega), h1, show (2147483648 : Int64).toInt = 2147483648 from rfl, show v.toInt + 2147483648 - 2147483648 = v.toInt by omega]
  rw [Int.bmod_eq_of_le (n := v.toInt) (m := 2 ^ 64) (by omega) (by omega)]
  exact Int.bmod_eq_of_le (by omega) (by omega)
theorem gc_lo {j : Nat} (hj : j < 8) (v : Int32) : lN (j * 4294967296) ≤ gc_pl j v := by
  obtain ⟨h1, h2⟩ := gc_w_i v
  exact (pk_lLE (by omega) (by omega)).mpr (by omega)
theorem gc_hi {j : Nat} (hj : j < 8) (v : Int32) : ¬ lN ((j + 1) * 4294967296) ≤ gc_pl j v := by
  obtain ⟨h1, h2⟩ := gc_w_i v
  intro h
  have := (pk_lLE (by omega) (by omega)).mp h
  omega
theorem gc_plE {j : Nat} (hj : j < 8) (v w : Int32) : gc_pl j v = gc_pl j w ↔ v = w := by
  constructor
  · intro h
    rw [← gc_valp hj v, ← gc_valp hj w, h]
  · intro h
    rw [h]
theorem gc_plL {j : Nat} (hj : j < 8) (v w : Int32) : gc_pl j v ≤ gc_pl j w ↔ v ≤ w := by
  obtain ⟨h1, h2⟩ := gc_w_i v
  obtain ⟨h3, h4⟩ := gc_w_i w
  unfold gc_pl
  rw [pk_lLE (by omega) (by omega), Int32.le_iff_toInt_le]
  omega
theorem gc_fill {f s : Nat → Int32} {i k : Nat} {x : Int32} (hk : k = i) (h : ∀ j, j < i → s j = f j) (hx : x = f i) : ∀ j, j < i + 1 → upd s k x j = f j := by
  intro j hj
  rw [hk]
  by_cases e : j = i
  · rw [e, pk_us, hx]
  · rw [pk_un e]
    exact h j (by omega)
theorem gc_pO {Q : Int64 → Prop} {j : Nat} (hj : j < 8) (h : Q (lN (j * 4294967296))) : wpX_placeOf Q () (nI j) (-2147483648) := by
  unfold wpX_placeOf
  rw [gc_start hj]
  exact h
theorem gc_pE {Q : Int64 → Prop} {j : Nat} (hj : j < 8) (h : Q (lN ((j + 1) * 4294967296))) : wpX_placeOfEnd Q () (nI j) := by
  unfold wpX_placeOfEnd
  rw [gc_end hj]
  exact h
theorem gc_pV {Q : Int64 → Prop} {j : Nat} {v : Int32} (hj : j < 8) (h : Q (gc_pl j v)) : wpX_placeOf Q () (nI j) v := by
  unfold wpX_placeOf
  rw [gc_place hj]
  exact h
end
section
theorem gc_rb0 {Q : Int32 → Prop} {p : Int64} {f1 f2 f3 f4 f5 f6 f7 f8 : Int32} {a1 : Nat → Int64} {a2 a3 a4 a5 a6 a7 a8 a9 a10 a11 a12 a13 a14 : Nat → Int32} {n : Nat} {s x k : Int32} (hx : x = 0) (h : Q s) : wX_rowsBelow_11 Q p f1 f2 f3 f4 f5 f6 f7 f8 a1 a2 a3 a4 a5 a6 a7 a8 a9 a10 a11 a12 a13 a14 (n + 1) s x k :=
  br_c (fun _ => h) (fun _ => br_t hx h)
theorem gc_rbG {Q : Int32 → Prop} {p : Int64} {f1 f2 f3 f4 f5 f6 f7 f8 : Int32} {a1 : Nat → Int64} {a2 a3 a4 a5 a6 a7 a8 a9 a10 a11 a12 a13 a14 : Nat → Int32} {n : Nat} {s x : Int32} (i k : Nat) (hx : x = nI i) (hi : 0 < i) (hi2 : i < 41) (hk : k < 16) (hc : p ≤ a1 i)
    (h : wX_rowsBelow_11 Q p f1 f2 f3 f4 f5 f6 f7 f8 a1 a2 a3 a4 a5 a6 a7 a8 a9 a10 a11 a12 a13 a14 n s (a3 i) (nI (k + 1))) : wX_rowsBelow_11 Q p f1 f2 f3 f4 f5 f6 f7 f8 a1 a2 a3 a4 a5 a6 a7 a8 a9 a10 a11 a12 a13 a14 (n + 1) s x (nI k) := by
  subst hx
  have ci : (nI i).toNatClampNeg = i := nI_clamp (by omega)
  have vi : vp_in (nI i) 41 := vp_in_nI hi2 (by omega)
  refine pk_le 16 k (fun z => absurd z (by omega)) (fun _ => br_f (nI_ne0 hi (by omega)) ?_)
  rw [ci]
  exact ⟨vi, br_t hc ⟨vi, nm_e (nm_r (nI_1 k) h)⟩⟩
theorem gc_rbL {Q : Int32 → Prop} {p : Int64} {f1 f2 f3 f4 f5 f6 f7 f8 : Int32} {a1 : Nat → Int64} {a2 a3 a4 a5 a6 a7 a8 a9 a10 a11 a12 a13 a14 : Nat → Int32} {n : Nat} {s x : Int32} (i k l : Nat) (hx : x = nI i) (hi : 0 < i) (hi2 : i < 41) (hk : k < 16) (hl : a3 i = nI l) (hl2 : l < 41) (hc : ¬ p ≤ a1 i)
    (h : wX_rowsBelow_11 Q p f1 f2 f3 f4 f5 f6 f7 f8 a1 a2 a3 a4 a5 a6 a7 a8 a9 a10 a11 a12 a13 a14 n (s + (a6 l + a2 i)) (a4 i) (nI (k + 1))) : wX_rowsBelow_11 Q p f1 f2 f3 f4 f5 f6 f7 f8 a1 a2 a3 a4 a5 a6 a7 a8 a9 a10 a11 a12 a13 a14 (n + 1) s x (nI k) := by
  subst hx
  have ci : (nI i).toNatClampNeg = i := nI_clamp (by omega)
  have cl : (a3 i).toNatClampNeg = l := by rw [hl]; exact nI_clamp (by omega)
  have vi : vp_in (nI i) 41 := vp_in_nI hi2 (by omega)
  have vl : vp_in (a3 i) 41 := by rw [hl]; exact vp_in_nI hl2 (by omega)
  refine pk_le 16 k (fun z => absurd z (by omega)) (fun _ => br_f (nI_ne0 hi (by omega)) ?_)
  rw [ci, cl]
  exact ⟨vi, br_f hc ⟨vi, vl, vi, nm_e ⟨vi, nm_e (nm_r (nI_1 k) h)⟩⟩⟩
theorem gc_kb0 {Q : Int32 → Prop} {p : Int64} {f1 f2 f3 f4 f5 f6 f7 f8 : Int32} {a1 : Nat → Int64} {a2 a3 a4 a5 a6 a7 a8 a9 a10 a11 a12 a13 a14 : Nat → Int32} {n : Nat} {s x k : Int32} (hx : x = 0) (h : Q s) : wX_kindsBelow_11 Q p f1 f2 f3 f4 f5 f6 f7 f8 a1 a2 a3 a4 a5 a6 a7 a8 a9 a10 a11 a12 a13 a14 (n + 1) s x k :=
  br_c (fun _ => h) (fun _ => br_t hx h)
theorem gc_kbG {Q : Int32 → Prop} {p : Int64} {f1 f2 f3 f4 f5 f6 f7 f8 : Int32} {a1 : Nat → Int64} {a2 a3 a4 a5 a6 a7 a8 a9 a10 a11 a12 a13 a14 : Nat → Int32} {n : Nat} {s x : Int32} (i k : Nat) (hx : x = nI i) (hi : 0 < i) (hi2 : i < 41) (hk : k < 16) (hc : p ≤ a1 i)
    (h : wX_kindsBelow_11 Q p f1 f2 f3 f4 f5 f6 f7 f8 a1 a2 a3 a4 a5 a6 a7 a8 a9 a10 a11 a12 a13 a14 n s (a3 i) (nI (k + 1))) : wX_kindsBelow_11 Q p f1 f2 f3 f4 f5 f6 f7 f8 a1 a2 a3 a4 a5 a6 a7 a8 a9 a10 a11 a12 a13 a14 (n + 1) s x (nI k) := by
  subst hx
  have ci : (nI i).toNatClampNeg = i := nI_clamp (by omega)
  have vi : vp_in (nI i) 41 := vp_in_nI hi2 (by omega)
  refine pk_le 16 k (fun z => absurd z (by omega)) (fun _ => br_f (nI_ne0 hi (by omega)) ?_)
  rw [ci]
  exact ⟨vi, br_t hc ⟨vi, nm_e (nm_r (nI_1 k) h)⟩⟩
theorem gc_kbL {Q : Int32 → Prop} {p : Int64} {f1 f2 f3 f4 f5 f6 f7 f8 : Int32} {a1 : Nat → Int64} {a2 a3 a4 a5 a6 a7 a8 a9 a10 a11 a12 a13 a14 : Nat → Int32} {n : Nat} {s x : Int32} (i k l : Nat) (hx : x = nI i) (hi : 0 < i) (hi2 : i < 41) (hk : k < 16) (hl : a3 i = nI l) (hl2 : l < 41) (hc : ¬ p ≤ a1 i)
    (h : wX_kindsBelow_11 Q p f1 f2 f3 f4 f5 f6 f7 f8 a1 a2 a3 a4 a5 a6 a7 a8 a9 a10 a11 a12 a13 a14 n (s + (a7 l + 1)) (a4 i) (nI (k + 1))) : wX_kindsBelow_11 Q p f1 f2 f3 f4 f5 f6 f7 f8 a1 a2 a3 a4 a5 a6 a7 a8 a9 a10 a11 a12 a13 a14 (n + 1) s x (nI k) := by
  subst hx
  have ci : (nI i).toNatClampNeg = i := nI_clamp (by omega)
  have cl : (a3 i).toNatClampNeg = l := by rw [hl]; exact nI_clamp (by omega)
  have vi : vp_in (nI i) 41 := vp_in_nI hi2 (by omega)
  have vl : vp_in (a3 i) 41 := by rw [hl]; exact vp_in_nI hl2 (by omega)
  refine pk_le 16 k (fun z => absurd z (by omega)) (fun _ => br_f (nI_ne0 hi (by omega)) ?_)
  rw [ci, cl]
  exact ⟨vi, br_f hc ⟨vi, vl, nm_e ⟨vi, nm_e (nm_r (nI_1 k) h)⟩⟩⟩
theorem gc_sb0 {Q : Int32 → Prop} {p : Int64} {f1 f2 f3 f4 f5 f6 f7 f8 : Int32} {a1 : Nat → Int64} {a2 a3 a4 a5 a6 a7 a8 a9 a10 a11 a12 a13 a14 : Nat → Int32} {n : Nat} {s x k : Int32} (hx : x = 0) (h : Q s) : wX_sumBelow_11 Q p f1 f2 f3 f4 f5 f6 f7 f8 a1 a2 a3 a4 a5 a6 a7 a8 a9 a10 a11 a12 a13 a14 (n + 1) s x k :=
  br_c (fun _ => h) (fun _ => br_t hx h)
theorem gc_sbG {Q : Int32 → Prop} {p : Int64} {f1 f2 f3 f4 f5 f6 f7 f8 : Int32} {a1 : Nat → Int64} {a2 a3 a4 a5 a6 a7 a8 a9 a10 a11 a12 a13 a14 : Nat → Int32} {n : Nat} {s x : Int32} (i k : Nat) (hx : x = nI i) (hi : 0 < i) (hi2 : i < 41) (hk : k < 16) (hc : p ≤ a1 i)
    (h : wX_sumBelow_11 Q p f1 f2 f3 f4 f5 f6 f7 f8 a1 a2 a3 a4 a5 a6 a7 a8 a9 a10 a11 a12 a13 a14 n s (a3 i) (nI (k + 1))) : wX_sumBelow_11 Q p f1 f2 f3 f4 f5 f6 f7 f8 a1 a2 a3 a4 a5 a6 a7 a8 a9 a10 a11 a12 a13 a14 (n + 1) s x (nI k) := by
  subst hx
  have ci : (nI i).toNatClampNeg = i := nI_clamp (by omega)
  have vi : vp_in (nI i) 41 := vp_in_nI hi2 (by omega)
  refine pk_le 16 k (fun z => absurd z (by omega)) (fun _ => br_f (nI_ne0 hi (by omega)) ?_)
  rw [ci]
  exact ⟨vi, br_t hc ⟨vi, nm_e (nm_r (nI_1 k) h)⟩⟩
theorem gc_sbL {Q : Int32 → Prop} {p : Int64} {f1 f2 f3 f4 f5 f6 f7 f8 : Int32} {a1 : Nat → Int64} {a2 a3 a4 a5 a6 a7 a8 a9 a10 a11 a12 a13 a14 : Nat → Int32} {n : Nat} {s x : Int32} (i k l : Nat) (hx : x = nI i) (hi : 0 < i) (hi2 : i < 41) (hk : k < 16) (hl : a3 i = nI l) (hl2 : l < 41) (hc : ¬ p ≤ a1 i)
    (h : wX_sumBelow_11 Q p f1 f2 f3 f4 f5 f6 f7 f8 a1 a2 a3 a4 a5 a6 a7 a8 a9 a10 a11 a12 a13 a14 n (s + (a8 l + a2 i * gc_val (a1 i))) (a4 i) (nI (k + 1))) : wX_sumBelow_11 Q p f1 f2 f3 f4 f5 f6 f7 f8 a1 a2 a3 a4 a5 a6 a7 a8 a9 a10 a11 a12 a13 a14 (n + 1) s x (nI k) := by
  subst hx
  have ci : (nI i).toNatClampNeg = i := nI_clamp (by omega)
  have cl : (a3 i).toNatClampNeg = l := by rw [hl]; exact nI_clamp (by omega)
  have vi : vp_in (nI i) 41 := vp_in_nI hi2 (by omega)
  have vl : vp_in (a3 i) 41 := by rw [hl]; exact vp_in_nI hl2 (by omega)
  refine pk_le 16 k (fun z => absurd z (by omega)) (fun _ => br_f (nI_ne0 hi (by omega)) ?_)
  rw [ci, cl]
  exact ⟨vi, br_f hc ⟨vi, vl, vi, vi, nm_e ⟨vi, nm_e (nm_r (nI_1 k) h)⟩⟩⟩
theorem gc_raH {Q : Int64 → Prop} {f1 f2 f3 f4 f5 f6 f7 f8 : Int32} {a1 : Nat → Int64} {a2 a3 a4 a5 a6 a7 a8 a9 a10 a11 a12 a13 a14 : Nat → Int32} {n : Nat} {r x : Int32} (i k l : Nat) (hx : x = nI i) (hi : 0 < i) (hi2 : i < 41) (hk : k < 16) (hl : a3 i = nI l) (hl2 : l < 41) (h1 : a6 l ≤ r) (h2 : ¬ a6 l + a2 i ≤ r)
    (h : Q (a1 i)) : wX_rowAt_10 Q f1 f2 f3 f4 f5 f6 f7 f8 a1 a2 a3 a4 a5 a6 a7 a8 a9 a10 a11 a12 a13 a14 (n + 1) r x (nI k) := by
  subst hx
  have ci : (nI i).toNatClampNeg = i := nI_clamp (by omega)
  have cl : (a3 i).toNatClampNeg = l := by rw [hl]; exact nI_clamp (by omega)
  have vi : vp_in (nI i) 41 := vp_in_nI hi2 (by omega)
  have vl : vp_in (a3 i) 41 := by rw [hl]; exact vp_in_nI hl2 (by omega)
  refine pk_le 16 k (fun z => absurd z (by omega)) (fun _ => br_f (nI_ne0 hi (by omega)) ?_)
  rw [ci, cl]
  exact ⟨vi, vl, nm_e (br_t h1 ⟨vi, br_f h2 ⟨vi, h⟩⟩)⟩
theorem gc_raR {Q : Int64 → Prop} {f1 f2 f3 f4 f5 f6 f7 f8 : Int32} {a1 : Nat → Int64} {a2 a3 a4 a5 a6 a7 a8 a9 a10 a11 a12 a13 a14 : Nat → Int32} {n : Nat} {r x : Int32} (i k l : Nat) (hx : x = nI i) (hi : 0 < i) (hi2 : i < 41) (hk : k < 16) (hl : a3 i = nI l) (hl2 : l < 41) (h1 : a6 l ≤ r) (h2 : a6 l + a2 i ≤ r)
    (h : wX_rowAt_10 Q f1 f2 f3 f4 f5 f6 f7 f8 a1 a2 a3 a4 a5 a6 a7 a8 a9 a10 a11 a12 a13 a14 n (r - (a6 l + a2 i)) (a4 i) (nI (k + 1))) : wX_rowAt_10 Q f1 f2 f3 f4 f5 f6 f7 f8 a1 a2 a3 a4 a5 a6 a7 a8 a9 a10 a11 a12 a13 a14 (n + 1) r x (nI k) := by
  subst hx
  have ci : (nI i).toNatClampNeg = i := nI_clamp (by omega)
  have cl : (a3 i).toNatClampNeg = l := by rw [hl]; exact nI_clamp (by omega)
  have vi : vp_in (nI i) 41 := vp_in_nI hi2 (by omega)
  have vl : vp_in (a3 i) 41 := by rw [hl]; exact vp_in_nI hl2 (by omega)
  refine pk_le 16 k (fun z => absurd z (by omega)) (fun _ => br_f (nI_ne0 hi (by omega)) ?_)
  rw [ci, cl]
  exact ⟨vi, vl, nm_e (br_t h1 ⟨vi, br_t h2 ⟨vi, nm_e ⟨vi, nm_e (nm_r (nI_1 k) h)⟩⟩⟩)⟩
theorem gc_raL {Q : Int64 → Prop} {f1 f2 f3 f4 f5 f6 f7 f8 : Int32} {a1 : Nat → Int64} {a2 a3 a4 a5 a6 a7 a8 a9 a10 a11 a12 a13 a14 : Nat → Int32} {n : Nat} {r x : Int32} (i k l : Nat) (hx : x = nI i) (hi : 0 < i) (hi2 : i < 41) (hk : k < 16) (hl : a3 i = nI l) (hl2 : l < 41) (h1 : ¬ a6 l ≤ r)
    (h : wX_rowAt_10 Q f1 f2 f3 f4 f5 f6 f7 f8 a1 a2 a3 a4 a5 a6 a7 a8 a9 a10 a11 a12 a13 a14 n r (a3 i) (nI (k + 1))) : wX_rowAt_10 Q f1 f2 f3 f4 f5 f6 f7 f8 a1 a2 a3 a4 a5 a6 a7 a8 a9 a10 a11 a12 a13 a14 (n + 1) r x (nI k) := by
  subst hx
  have ci : (nI i).toNatClampNeg = i := nI_clamp (by omega)
  have cl : (a3 i).toNatClampNeg = l := by rw [hl]; exact nI_clamp (by omega)
  have vi : vp_in (nI i) 41 := vp_in_nI hi2 (by omega)
  have vl : vp_in (a3 i) 41 := by rw [hl]; exact vp_in_nI hl2 (by omega)
  refine pk_le 16 k (fun z => absurd z (by omega)) (fun _ => br_f (nI_ne0 hi (by omega)) ?_)
  rw [ci, cl]
  exact ⟨vi, vl, nm_e (br_f h1 ⟨vi, nm_e (nm_r (nI_1 k) h)⟩)⟩
end
section
/-- the tree's answers about one group: n rows, their sum, the least, greatest and middle place, the number of different rows -/
def gc_G (s e : Int64) (n : Nat) (sm : Int32) (p0 p1 p2 : Int64) (kd : Int32) (f1 : Int32) (a1 : Nat → Int64) (a2 a3 a4 a5 a6 a7 a8 : Nat → Int32) : Prop :=
  ∀ (f2 f3 f4 f5 f6 f7 f8 : Int32) (a9 a10 a11 a12 a13 a14 : Nat → Int32),
    (∀ Q : Int32 → Prop, Q 0 → wpX_rowsBelow Q (f1, f2, f3, f4, f5, f6, f7, f8, a1, a2, a3, a4, a5, a6, a7, a8, a9, a10, a11, a12, a13, a14) s) ∧
    (∀ Q : Int32 → Prop, Q (nI n) → wpX_rowsBelow Q (f1, f2, f3, f4, f5, f6, f7, f8, a1, a2, a3, a4, a5, a6, a7, a8, a9, a10, a11, a12, a13, a14) e) ∧
    (∀ Q : Int32 → Prop, Q 0 → wpX_sumBelow Q (f1, f2, f3, f4, f5, f6, f7, f8, a1, a2, a3, a4, a5, a6, a7, a8, a9, a10, a11, a12, a13, a14) s) ∧
    (∀ Q : Int32 → Prop, Q sm → wpX_sumBelow Q (f1, f2, f3, f4, f5, f6, f7, f8, a1, a2, a3, a4, a5, a6, a7, a8, a9, a10, a11, a12, a13, a14) e) ∧
    (∀ Q : Int32 → Prop, Q 0 → wpX_kindsBelow Q (f1, f2, f3, f4, f5, f6, f7, f8, a1, a2, a3, a4, a5, a6, a7, a8, a9, a10, a11, a12, a13, a14) s) ∧
    (∀ Q : Int32 → Prop, Q kd → wpX_kindsBelow Q (f1, f2, f3, f4, f5, f6, f7, f8, a1, a2, a3, a4, a5, a6, a7, a8, a9, a10, a11, a12, a13, a14) e) ∧
    (∀ Q : Int64 → Prop, Q p0 → wpX_rowAt Q (f1, f2, f3, f4, f5, f6, f7, f8, a1, a2, a3, a4, a5, a6, a7, a8, a9, a10, a11, a12, a13, a14) 0) ∧
    (∀ Q : Int64 → Prop, Q p1 → wpX_rowAt Q (f1, f2, f3, f4, f5, f6, f7, f8, a1, a2, a3, a4, a5, a6, a7, a8, a9, a10, a11, a12, a13, a14) ((0 + nI n) - 1)) ∧
    (∀ Q : Int64 → Prop, Q p2 → wpX_rowAt Q (f1, f2, f3, f4, f5, f6, f7, f8, a1, a2, a3, a4, a5, a6, a7, a8, a9, a10, a11, a12, a13, a14) (0 + ((nI n - 1) / 2)))
/-- one node of t rows -/
theorem gc_G1 {f1 : Int32} {a1 : Nat → Int64} {a2 a3 a4 a5 a6 a7 a8 : Nat → Int32} {s e p : Int64} {t : Nat} (ht : t = 1 ∨ t = 2)
    (hr : f1 = nI 1) (h1 : a1 1 = p) (h2 : a2 1 = nI t) (h3 : a3 1 = 0) (h4 : a4 1 = 0) (h6 : a6 0 = 0) (h7 : a7 0 = 0) (h8 : a8 0 = 0) (hs : s ≤ p) (he : ¬ e ≤ p) :
    gc_G s e t (nI t * gc_val p) p p p 1 f1 a1 a2 a3 a4 a5 a6 a7 a8 := by
  intro f2 f3 f4 f5 f6 f7 f8 a9 a10 a11 a12 a13 a14
  subst hr
  have hs' : s ≤ a1 1 := by rw [h1]; exact hs
  have he' : ¬ e ≤ a1 1 := by rw [h1]; exact he
  have hra : ∀ (Q : Int64 → Prop) (r : Int32), 0 ≤ r → ¬ nI t ≤ r → Q p → wpX_rowAt Q ((nI 1), f2, f3, f4, f5, f6, f7, f8, a1, a2, a3, a4, a5, a6, a7, a8, a9, a10, a11, a12, a13, a14) r := fun Q r r1 r2 h =>
    Exists.intro 1 (gc_raH 1 0 0 rfl (by decide) (by decide) (by decide) h3 (by decide) (by rw [h6]; exact r1) (by rw [h6, h2, Int32.zero_add]; exact r2) (by rw [h1]; exact h))
  refine ⟨fun Q h => Exists.intro 2 (gc_rbG 1 0 rfl (by decide) (by decide) (by decide) hs' (gc_rb0 h3 h)),
    fun Q h => Exists.intro 2 (gc_rbL 1 0 0 rfl (by decide) (by decide) (by decide) h3 (by decide) he' (gc_rb0 h4 ?_)),
    fun Q h => Exists.intro 2 (gc_sbG 1 0 rfl (by decide) (by decide) (by decide) hs' (gc_sb0 h3 h)),
    fun Q h => Exists.intro 2 (gc_sbL 1 0 0 rfl (by decide) (by decide) (by decide) h3 (by decide) he' (gc_sb0 h4 ?_)),
    fun Q h => Exists.intro 2 (gc_kbG 1 0 rfl (by decide) (by decide) (by decide) hs' (gc_kb0 h3 h)),
    fun Q h => Exists.intro 2 (gc_kbL 1 0 0 rfl (by decide) (by decide) (by decide) h3 (by decide) he' (gc_kb0 h4 ?_)),
    fun Q h => hra Q _ (by decide) ?_ h, fun Q h => hra Q _ ?_ ?_ h, fun Q h => hra Q _ ?_ ?_ h⟩
  · rw [h6, h2, Int32.zero_add, Int32.zero_add]
    exact h
  · rw [h8, h2, h1, Int32.zero_add, Int32.zero_add]
    exact h
  · rw [h7, Int32.zero_add, Int32.zero_add]
    exact h
  all_goals (rcases ht with rfl | rfl <;> decide)
/-- two nodes, the second left of the first -/
theorem gc_G2 {f1 : Int32} {a1 : Nat → Int64} {a2 a3 a4 a5 a6 a7 a8 : Nat → Int32} {s e p q : Int64}
    (hr : f1 = nI 1) (h1 : a1 1 = p) (k1 : a1 2 = q) (h2 : a2 1 = 1) (k2 : a2 2 = 1) (h3 : a3 1 = nI 2) (k3 : a3 2 = 0) (h4 : a4 1 = 0)
    (h6 : a6 0 = 0) (k6 : a6 2 = 1) (k7 : a7 2 = 1) (k8 : a8 2 = gc_val q) (hs : s ≤ p) (he : ¬ e ≤ p) (ks : s ≤ q) :
    gc_G s e 2 (gc_val q + gc_val p) q p q 2 f1 a1 a2 a3 a4 a5 a6 a7 a8 := by
  intro f2 f3 f4 f5 f6 f7 f8 a9 a10 a11 a12 a13 a14
  subst hr
  have hs' : s ≤ a1 1 := by rw [h1]; exact hs
  have he' : ¬ e ≤ a1 1 := by rw [h1]; exact he
  have ks' : s ≤ a1 2 := by rw [k1]; exact ks
  have hra : ∀ (Q : Int64 → Prop), Q q → wpX_rowAt Q ((nI 1), f2, f3, f4, f5, f6, f7, f8, a1, a2, a3, a4, a5, a6, a7, a8, a9, a10, a11, a12, a13, a14) 0 := fun Q h =>
    Exists.intro 2 (gc_raL 1 0 2 rfl (by decide) (by decide) (by decide) h3 (by decide) (by rw [k6]; decide)
      (gc_raH 2 1 0 h3 (by decide) (by decide) (by decide) k3 (by decide) (by rw [h6]; decide) (by rw [h6, k2]; decide) (by rw [k1]; exact h)))
  refine ⟨fun Q h => Exists.intro 3 (gc_rbG 1 0 rfl (by decide) (by decide) (by decide) hs' (gc_rbG 2 1 h3 (by decide) (by decide) (by decide) ks' (gc_rb0 k3 h))),
    fun Q h => Exists.intro 2 (gc_rbL 1 0 2 rfl (by decide) (by decide) (by decide) h3 (by decide) he' (gc_rb0 h4 ?_)),
    fun Q h => Exists.intro 3 (gc_sbG 1 0 rfl (by decide) (by decide) (by decide) hs' (gc_sbG 2 1 h3 (by decide) (by decide) (by decide) ks' (gc_sb0 k3 h))),
    fun Q h => Exists.intro 2 (gc_sbL 1 0 2 rfl (by decide) (by decide) (by decide) h3 (by decide) he' (gc_sb0 h4 ?_)),
    fun Q h => Exists.intro 3 (gc_kbG 1 0 rfl (by decide) (by decide) (by decide) hs' (gc_kbG 2 1 h3 (by decide) (by decide) (by decide) ks' (gc_kb0 k3 h))),
    fun Q h => Exists.intro 2 (gc_kbL 1 0 2 rfl (by decide) (by decide) (by decide) h3 (by decide) he' (gc_kb0 h4 ?_)),
    hra, fun Q h => Exists.intro 1 (gc_raH 1 0 2 rfl (by decide) (by decide) (by decide) h3 (by decide) (by rw [k6]; decide) (by rw [k6, h2]; decide) (by rw [h1]; exact h)),
    fun Q h => ?_⟩
  · rw [k6, h2]
    exact h
  · rw [k8, h2, h1, Int32.zero_add, Int32.one_mul]
    exact h
  · rw [k7]
    exact h
  · rw [show (0 : Int32) + ((nI 2 - 1) / 2) = 0 from by decide]
    exact hra Q h
/-- two nodes, the second right of the first -/
theorem gc_G3 {f1 : Int32} {a1 : Nat → Int64} {a2 a3 a4 a5 a6 a7 a8 : Nat → Int32} {s e p q : Int64}
    (hr : f1 = nI 1) (h1 : a1 1 = p) (k1 : a1 2 = q) (h2 : a2 1 = 1) (k2 : a2 2 = 1) (h3 : a3 1 = 0) (k3 : a3 2 = 0) (h4 : a4 1 = nI 2) (k4 : a4 2 = 0)
    (h6 : a6 0 = 0) (h7 : a7 0 = 0) (h8 : a8 0 = 0) (hs : s ≤ p) (he : ¬ e ≤ p) (ke : ¬ e ≤ q) :
    gc_G s e 2 (gc_val p + gc_val q) p q p 2 f1 a1 a2 a3 a4 a5 a6 a7 a8 := by
  intro f2 f3 f4 f5 f6 f7 f8 a9 a10 a11 a12 a13 a14
  subst hr
  have hs' : s ≤ a1 1 := by rw [h1]; exact hs
  have he' : ¬ e ≤ a1 1 := by rw [h1]; exact he
  have ke' : ¬ e ≤ a1 2 := by rw [k1]; exact ke
  have hra : ∀ (Q : Int64 → Prop), Q p → wpX_rowAt Q ((nI 1), f2, f3, f4, f5, f6, f7, f8, a1, a2, a3, a4, a5, a6, a7, a8, a9, a10, a11, a12, a13, a14) 0 := fun Q h =>
    Exists.intro 1 (gc_raH 1 0 0 rfl (by decide) (by decide) (by decide) h3 (by decide) (by rw [h6]; decide) (by rw [h6, h2]; decide) (by rw [h1]; exact h))
  refine ⟨fun Q h => Exists.intro 2 (gc_rbG 1 0 rfl (by decide) (by decide) (by decide) hs' (gc_rb0 h3 h)),
    fun Q h => Exists.intro 3 (gc_rbL 1 0 0 rfl (by decide) (by decide) (by decide) h3 (by decide) he' (gc_rbL 2 1 0 h4 (by decide) (by decide) (by decide) k3 (by decide) ke' (gc_rb0 k4 ?_))),
    fun Q h => Exists.intro 2 (gc_sbG 1 0 rfl (by decide) (by decide) (by decide) hs' (gc_sb0 h3 h)),
    fun Q h => Exists.intro 3 (gc_sbL 1 0 0 rfl (by decide) (by decide) (by decide) h3 (by decide) he' (gc_sbL 2 1 0 h4 (by decide) (by decide) (by decide) k3 (by decide) ke' (gc_sb0 k4 ?_))),
    fun Q h => Exists.intro 2 (gc_kbG 1 0 rfl (by decide) (by decide) (by decide) hs' (gc_kb0 h3 h)),
    fun Q h => Exists.intro 3 (gc_kbL 1 0 0 rfl (by decide) (by decide) (by decide) h3 (by decide) he' (gc_kbL 2 1 0 h4 (by decide) (by decide) (by decide) k3 (by decide) ke' (gc_kb0 k4 ?_))),
    hra, fun Q h => Exists.intro 2 (gc_raR 1 0 0 rfl (by decide) (by decide) (by decide) h3 (by decide) (by rw [h6]; decide) (by rw [h6, h2]; decide)
      (gc_raH 2 1 0 h4 (by decide) (by decide) (by decide) k3 (by decide) (by rw [h6, h2]; decide) (by rw [h6, h2, k2]; decide) (by rw [k1]; exact h))),
    fun Q h => ?_⟩
  · rw [h6, h2, k2]
    exact h
  · rw [h8, h2, k2, h1, k1, Int32.zero_add, Int32.zero_add, Int32.zero_add, Int32.one_mul, Int32.one_mul]
    exact h
  · rw [h7]
    exact h
  · rw [show (0 : Int32) + ((nI 2 - 1) / 2) = 0 from by decide]
    exact hra Q h
end
section
theorem gc_d39 {post : St2 → Prop} {x2 x4 : Int64} {x6 x7 : Int32} {f1 f2 f3 f4 f5 f6 f7 f8 : Int32} {a1 : Nat → Int64} {a2 a3 a4 a5 a6 a7 a8 a9 a10 a11 a12 a13 a14 : Nat → Int32}
    (H : ∀ (n : Nat) (b : Nat → Int32), wX_describe_39 post x2 x4 x6 x7 f1 f2 f3 f4 f5 f6 f7 f8 (n + 1) (nI 6) a1 a2 a3 a4 a5 a6 a7 a8 a9 a10 b a12 a13 a14) : ∃ fu, wX_describe_39 post x2 x4 x6 x7 f1 f2 f3 f4 f5 f6 f7 f8 fu 0 a1 a2 a3 a4 a5 a6 a7 a8 a9 a10 a11 a12 a13 a14 :=
  pk_loop (fun n i s => wX_describe_39 post x2 x4 x6 x7 f1 f2 f3 f4 f5 f6 f7 f8 n (nI i) a1 a2 a3 a4 a5 a6 a7 a8 a9 a10 s a12 a13 a14) (fun _ _ => True) 6 0 a11 (by omega) trivial
    (fun n s _ => H n s)
    (fun n i s hi _ hw => pk_le 6 i (fun z => absurd z (by omega)) (fun _ => ⟨pk_in i 6 hi, nm_e (nm_r (nI_1 i) (hw _ trivial))⟩))
theorem gc_root0 {Q : Int32 → Prop} {p : Int64} {f2 f3 f4 f5 f6 f7 f8 : Int32} {a1 : Nat → Int64} {a2 a3 a4 a5 a6 a7 a8 a9 a10 a11 a12 a13 a14 : Nat → Int32} (h : Q 0) : wpX_rowsBelow Q (0, f2, f3, f4, f5, f6, f7, f8, a1, a2, a3, a4, a5, a6, a7, a8, a9, a10, a11, a12, a13, a14) p :=
  Exists.intro 1 (gc_rb0 rfl h)
/-- an empty tree: the group isn't shown -/
theorem gc_describe0 {post : St2 → Prop} {f2 f3 f4 f5 f6 f7 f8 : Int32} {a1 : Nat → Int64} {a2 a3 a4 a5 a6 a7 a8 a9 a10 a11 a12 a13 a14 : Nat → Int32} {j : Nat} (hj : j < 8) (hp : ∀ b, post (0, f2, f3, f4, f5, f6, 0, f8, a1, a2, a3, a4, a5, a6, a7, a8, a9, a10, b, a12, a13, a14)) : wpX_describe post (0, f2, f3, f4, f5, f6, f7, f8, a1, a2, a3, a4, a5, a6, a7, a8, a9, a10, a11, a12, a13, a14) (nI j) := by
  unfold wpX_describe
  refine gc_pO hj (gc_pE hj (gc_root0 (gc_root0 (nm_r (Int32.sub_zero 0) (gc_d39 (fun n b => ?_))))))
  exact pk_le 6 6 (fun _ => br_t rfl (hp b)) (fun z => absurd z (by omega))
/-- a group of n rows -/
theorem gc_describe {post : St2 → Prop} {f1 f2 f3 f6 f7 f8 : Int32} {a1 : Nat → Int64} {a2 a3 a4 a5 a6 a7 a8 a9 a10 a11 a12 a13 a14 : Nat → Int32} {j n : Nat} {sm : Int32} {p0 p1 p2 : Int64} {kd : Int32} (hj : j < 8) (hn : 0 < n) (hn2 : n < 41) (hk : ¬ 40 < kd)
    (G : gc_G (lN (j * 4294967296)) (lN ((j + 1) * 4294967296)) n sm p0 p1 p2 kd f1 a1 a2 a3 a4 a5 a6 a7 a8)
    (hp : ∀ b : Nat → Int32, b 0 = nI n → b 1 = sm → b 4 = kd → b 5 = gc_val p2 → post (f1, f2, f3, 1, 40, f6, 1, f8, a1, a2, a3, a4, a5, a6, a7, a8, a9, a10, b, a12, a13, a14)) : wpX_describe post (f1, f2, f3, 1, 40, f6, f7, f8, a1, a2, a3, a4, a5, a6, a7, a8, a9, a10, a11, a12, a13, a14) (nI j) := by
  have g := fun a => G f2 f3 1 40 f6 0 f8 a9 a10 a a12 a13 a14
  have g' := G f2 f3 1 40 f6 f7 f8 a9 a10 a11 a12 a13 a14
  unfold wpX_describe
  refine gc_pO hj (gc_pE hj (g'.1 _ (g'.2.1 _ (nm_r (Int32.sub_zero _) (gc_d39 (fun m b => ?_))))))
  refine pk_le 6 6 (fun _ => br_f (nI_ne0 hn (by omega)) (nm_e ((g _).2.2.2.1 _ ((g _).2.2.1 _ (nm_e ((g _).2.2.2.2.2.2.1 _ ((g _).2.2.2.2.2.2.2.1 _ ⟨by decide, (g _).2.2.2.2.2.2.2.2 _ ?_⟩))))))) (fun z => absurd z (by omega))
  refine nm_e (nm_e ((g _).2.2.2.2.2.1 _ ((g _).2.2.2.2.1 _ (nm_e (nm_e ?_)))))
  have h4 : kd - 0 = kd := Int32.sub_zero kd
  refine br_f (nI_nlt (b := 1) hn (by omega)) (br_f ?_ (hp _ rfl (Int32.sub_zero sm) h4 rfl))
  show ¬ 40 < kd - 0
  rw [h4]
  exact hk
theorem gc_n15 {post : St2 → Prop} {f1 f2 f3 f4 f5 f6 f7 f8 : Int32} {a1 : Nat → Int64} {a2 a3 a4 a5 a6 a7 a8 a9 a10 a11 a12 a13 a14 : Nat → Int32} (H : ∀ b, (∀ j, j < 6 → b j = a11 j) → post (f1, f2, f3, f4, f5, f6, f7, f8, a1, a2, a3, a4, a5, a6, a7, a8, a9, b, a11, a12, a13, a14)) : ∃ fu, wX_noteBefore_15 post f1 f2 f3 f4 f5 f6 f7 f8 fu 0 a1 a2 a3 a4 a5 a6 a7 a8 a9 a10 a11 a12 a13 a14 :=
  pk_loop (fun n i s => wX_noteBefore_15 post f1 f2 f3 f4 f5 f6 f7 f8 n (nI i) a1 a2 a3 a4 a5 a6 a7 a8 a9 s a11 a12 a13 a14) (fun i s => ∀ j, j < i → s j = a11 j) 6 0 a10 (by omega) (fun j hj => absurd hj (by omega))
    (fun n s h => pk_le 6 6 (fun _ => H s h) (fun z => absurd z (by omega)))
    (fun n i s hi h hw => pk_le 6 i (fun z => absurd z (by omega)) (fun _ => ⟨pk_in i 6 hi, pk_in i 6 hi, nm_e (nm_r (nI_1 i) (hw _ (gc_fill (nI_clamp (by omega)) h (by rw [nI_clamp (by omega)]))))⟩))
theorem gc_note0 {post : St2 → Prop} {f2 f3 f4 f5 f6 f7 f8 : Int32} {a1 : Nat → Int64} {a2 a3 a4 a5 a6 a7 a8 a9 a10 a11 a12 a13 a14 : Nat → Int32} {j : Nat} (hj : j < 8) (hp : ∀ b c, post (0, f2, f3, f4, f5, 0, 0, f8, a1, a2, a3, a4, a5, a6, a7, a8, a9, b, c, a12, a13, a14)) : wpX_noteBefore post (0, f2, f3, f4, f5, f6, f7, f8, a1, a2, a3, a4, a5, a6, a7, a8, a9, a10, a11, a12, a13, a14) (nI j) := by
  unfold wpX_noteBefore
  exact gc_describe0 hj (fun c => ⟨by decide, by decide, gc_n15 (fun b _ => hp b c)⟩)
theorem gc_note {post : St2 → Prop} {f1 f2 f3 f6 f7 f8 : Int32} {a1 : Nat → Int64} {a2 a3 a4 a5 a6 a7 a8 a9 a10 a11 a12 a13 a14 : Nat → Int32} {j n : Nat} {sm : Int32} {p0 p1 p2 : Int64} {kd : Int32} (hj : j < 8) (hn : 0 < n) (hn2 : n < 41) (hk : ¬ 40 < kd)
    (G : gc_G (lN (j * 4294967296)) (lN ((j + 1) * 4294967296)) n sm p0 p1 p2 kd f1 a1 a2 a3 a4 a5 a6 a7 a8)
    (hp : ∀ b c : Nat → Int32, b 0 = nI n → post (f1, f2, f3, 1, 40, 1, 1, f8, a1, a2, a3, a4, a5, a6, a7, a8, a9, b, c, a12, a13, a14)) : wpX_noteBefore post (f1, f2, f3, 1, 40, f6, f7, f8, a1, a2, a3, a4, a5, a6, a7, a8, a9, a10, a11, a12, a13, a14) (nI j) := by
  unfold wpX_noteBefore
  exact gc_describe hj hn hn2 hk G (fun c h0 _ _ _ => ⟨by decide, by decide, gc_n15 (fun b hb => hp b c (by rw [hb 0 (by omega), h0]))⟩)
end
section
theorem gc_u50 {post : St2 → Prop} {f1 f2 f3 f4 f5 f6 f7 f8 : Int32} {a1 : Nat → Int64} {a2 a3 a4 a5 a6 a7 a8 a9 a10 a11 a12 a13 a14 : Nat → Int32} {i l r : Nat} {z : Int32} (hi : i < 41) (hl : l < 41) (hr : r < 41)
    (h : post (f1, f2, f3, f4, f5, f6, f7, f8, a1, a2, a3, a4, (upd a5 i (1 + z)), (upd a6 i ((a6 l + a6 r) + a2 i)), (upd a7 i ((a7 l + a7 r) + 1)), (upd a8 i ((a8 l + a8 r) + a2 i * gc_val (a1 i))), a9, a10, a11, a12, a13, a14)) :
    wX_update_50 post (nI i) (nI l) (nI r) z 1 (nI i) f1 f2 f3 f4 f5 f6 f7 f8 a1 a2 a3 a4 a5 a6 a7 a8 a9 a10 a11 a12 a13 a14 := by
  have ci : (nI i).toNatClampNeg = i := nI_clamp (by omega)
  have cl : (nI l).toNatClampNeg = l := nI_clamp (by omega)
  have cr : (nI r).toNatClampNeg = r := nI_clamp (by omega)
  have vi : vp_in (nI i) 41 := vp_in_nI hi (by omega)
  have vl : vp_in (nI l) 41 := vp_in_nI hl (by omega)
  have vr : vp_in (nI r) 41 := vp_in_nI hr (by omega)
  unfold wX_update_50
  simp only [ci, cl, cr]
  exact ⟨vi, nm_e ⟨vl, vr, vi, vi, nm_e ⟨vl, vr, vi, nm_e ⟨vl, vr, vi, vi, And.intro vi (nm_e h)⟩⟩⟩⟩
/-- update: height m + 1, counts and sum out of the children -/
theorem gc_update {post : St2 → Prop} {f1 f2 f3 f4 f5 f6 f7 f8 : Int32} {a1 : Nat → Int64} {a2 a3 a4 a5 a6 a7 a8 a9 a10 a11 a12 a13 a14 : Nat → Int32} (i l r : Nat) (m : Int32) (hi : i < 41) (hl : l < 41) (hr : r < 41) (h3 : a3 i = nI l) (h4 : a4 i = nI r)
    (m1 : a5 l ≤ a5 r → a5 r = m) (m2 : ¬ a5 l ≤ a5 r → a5 l = m)
    (h : post (f1, f2, f3, f4, f5, f6, f7, f8, a1, a2, a3, a4, (upd a5 i (1 + m)), (upd a6 i ((a6 l + a6 r) + a2 i)), (upd a7 i ((a7 l + a7 r) + 1)), (upd a8 i ((a8 l + a8 r) + a2 i * gc_val (a1 i))), a9, a10, a11, a12, a13, a14)) :
    wpX_update post (f1, f2, f3, f4, f5, f6, f7, f8, a1, a2, a3, a4, a5, a6, a7, a8, a9, a10, a11, a12, a13, a14) (nI i) := by
  have ci : (nI i).toNatClampNeg = i := nI_clamp (by omega)
  have cl : (nI l).toNatClampNeg = l := nI_clamp (by omega)
  have cr : (nI r).toNatClampNeg = r := nI_clamp (by omega)
  have vi : vp_in (nI i) 41 := vp_in_nI hi (by omega)
  have vl : vp_in (nI l) 41 := vp_in_nI hl (by omega)
  have vr : vp_in (nI r) 41 := vp_in_nI hr (by omega)
  unfold wpX_update
  refine ⟨vi, nm_r (by rw [ci]; exact h3) ⟨vi, nm_r (by rw [ci]; exact h4) ⟨vl, vr, ?_⟩⟩⟩
  rw [cl, cr]
  exact br_c (fun z => ⟨vr, by rw [m1 z]; exact gc_u50 hi hl hr h⟩) (fun z => ⟨vl, by rw [m2 z]; exact gc_u50 hi hl hr h⟩)
/-- a new node i: a leaf of one row -/
theorem gc_new {post : Int32 → St2 → Prop} {f1 f3 f4 f5 f6 f7 f8 : Int32} {a1 : Nat → Int64} {a2 a3 a4 a5 a6 a7 a8 a9 a10 a11 a12 a13 a14 : Nat → Int32} {p : Int64} (i : Nat) (hi : i < 41) (hi0 : 0 ≠ i) (h5 : a5 0 = 0) (h6 : a6 0 = 0) (h7 : a7 0 = 0) (h8 : a8 0 = 0)
    (h : post (nI i) (f1, (a3 i), f3, f4, f5, f6, f7, f8, (vp_updL a1 i p), (upd a2 i 1), (upd a3 i 0), (upd a4 i 0), (upd a5 i 1), (upd a6 i 1), (upd a7 i 1), (upd a8 i (gc_val p)), a9, a10, a11, a12, a13, a14)) :
    wpX_newNode post (f1, (nI i), f3, f4, f5, f6, f7, f8, a1, a2, a3, a4, a5, a6, a7, a8, a9, a10, a11, a12, a13, a14) p := by
  have ci : (nI i).toNatClampNeg = i := nI_clamp (by omega)
  have vi : vp_in (nI i) 41 := vp_in_nI hi (by omega)
  unfold wpX_newNode
  refine ⟨vi, nm_r (e' := a3 i) (by rw [ci]) ⟨vi, nm_r (e' := vp_updL a1 i p) (by rw [ci]) ⟨vi, nm_r (e' := upd a2 i 1) (by rw [ci]) ⟨vi, nm_r (e' := upd a3 i 0) (by rw [ci]) ⟨vi, nm_r (e' := upd a4 i 0) (by rw [ci]) (gc_update i 0 0 0 hi (by omega) (by omega) pk_us pk_us (fun _ => h5) (fun _ => h5) ?_)⟩⟩⟩⟩⟩
  rw [h6, h7, h8, pk_us, pk_uLs, Int32.one_mul, Int32.zero_add, Int32.zero_add, Int32.zero_add]
  exact h
/-- a node whose children's heights differ by one at most stays where it is -/
theorem gc_balance {post : Int32 → St2 → Prop} {f1 f2 f3 f4 f5 f6 f7 f8 : Int32} {a1 : Nat → Int64} {a2 a3 a4 a5 a6 a7 a8 a9 a10 a11 a12 a13 a14 : Nat → Int32} (i l r : Nat) (m : Int32) (hi : i < 41) (hl : l < 41) (hr : r < 41) (il : l ≠ i) (ir : r ≠ i) (h3 : a3 i = nI l) (h4 : a4 i = nI r)
    (m1 : a5 l ≤ a5 r → a5 r = m) (m2 : ¬ a5 l ≤ a5 r → a5 l = m) (b1 : a5 l ≤ a5 r + 1) (b2 : a5 r ≤ a5 l + 1)
    (h : post (nI i) (f1, f2, f3, f4, f5, f6, f7, f8, a1, a2, a3, a4, (upd a5 i (1 + m)), (upd a6 i ((a6 l + a6 r) + a2 i)), (upd a7 i ((a7 l + a7 r) + 1)), (upd a8 i ((a8 l + a8 r) + a2 i * gc_val (a1 i))), a9, a10, a11, a12, a13, a14)) :
    wpX_balance post (f1, f2, f3, f4, f5, f6, f7, f8, a1, a2, a3, a4, a5, a6, a7, a8, a9, a10, a11, a12, a13, a14) (nI i) := by
  have ci : (nI i).toNatClampNeg = i := nI_clamp (by omega)
  have cl : (nI l).toNatClampNeg = l := nI_clamp (by omega)
  have cr : (nI r).toNatClampNeg = r := nI_clamp (by omega)
  have vi : vp_in (nI i) 41 := vp_in_nI hi (by omega)
  have vl : vp_in (nI l) 41 := vp_in_nI hl (by omega)
  have vr : vp_in (nI r) 41 := vp_in_nI hr (by omega)
  have e1 : upd a5 i (1 + m) l = a5 l := pk_un il
  have e2 : upd a5 i (1 + m) r = a5 r := pk_un ir
  unfold wpX_balance
  refine gc_update i l r m hi hl hr h3 h4 m1 m2 ?_
  refine And.intro vi (nm_r (by rw [ci]; exact h3) ⟨vi, nm_r (by rw [ci]; exact h4) ⟨vl, vr, ?_⟩⟩)
  rw [cl, cr, e1, e2]
  exact br_t b1 ⟨vr, vl, br_t b2 h⟩
theorem gc_mend0 {post : St2 → Prop} {f1 f2 f4 f5 f6 f7 f8 : Int32} {a1 : Nat → Int64} {a2 a3 a4 a5 a6 a7 a8 a9 a10 a11 a12 a13 a14 : Nat → Int32} (h : post (f1, f2, 0, f4, f5, f6, f7, f8, a1, a2, a3, a4, a5, a6, a7, a8, a9, a10, a11, a12, a13, a14)) : wpX_mendPath post (f1, f2, 0, f4, f5, f6, f7, f8, a1, a2, a3, a4, a5, a6, a7, a8, a9, a10, a11, a12, a13, a14) := by
  unfold wpX_mendPath
  exact nm_r (e' := -1) (by decide) (Exists.intro 1 (br_t (by decide) h))
/-- the path is node 1 alone, and balance leaves it on top -/
theorem gc_mend1 {post : St2 → Prop} {f1 f2 f4 f5 f6 f7 f8 : Int32} {a1 : Nat → Int64} {a2 a3 a4 a5 a6 a7 a8 a9 a10 a11 a12 a13 a14 : Nat → Int32} {b5 b6 b7 b8 : Nat → Int32} (h9 : a9 0 = nI 1)
    (hb : ∀ Q : Int32 → St2 → Prop, Q (nI 1) (f1, f2, 1, f4, f5, f6, f7, f8, a1, a2, a3, a4, b5, b6, b7, b8, a9, a10, a11, a12, a13, a14) → wpX_balance Q (f1, f2, 1, f4, f5, f6, f7, f8, a1, a2, a3, a4, a5, a6, a7, a8, a9, a10, a11, a12, a13, a14) (nI 1))
    (h : post ((nI 1), f2, 1, f4, f5, f6, f7, f8, a1, a2, a3, a4, b5, b6, b7, b8, a9, a10, a11, a12, a13, a14)) : wpX_mendPath post (f1, f2, 1, f4, f5, f6, f7, f8, a1, a2, a3, a4, a5, a6, a7, a8, a9, a10, a11, a12, a13, a14) := by
  unfold wpX_mendPath
  refine nm_r (e' := nI 0) (by decide) (Exists.intro 2 (br_f (by decide) ⟨pk_in 0 16 (by decide), nm_r (e' := nI 1) h9 (hb _ ?_)⟩))
  exact br_t (by decide) (nm_r (e' := -1) (by decide) (br_t (by decide) h))
/-- into an empty tree -/
theorem gc_add0 {post : St2 → Prop} {f3 f4 f5 f6 f7 f8 : Int32} {a1 : Nat → Int64} {a2 a3 a4 a5 a6 a7 a8 a9 a10 a11 a12 a13 a14 : Nat → Int32} {p : Int64} (h5 : a5 0 = 0) (h6 : a6 0 = 0) (h7 : a7 0 = 0) (h8 : a8 0 = 0)
    (h : post ((nI 1), (a3 1), 0, f4, f5, f6, f7, f8, (vp_updL a1 1 p), (upd a2 1 1), (upd a3 1 0), (upd a4 1 0), (upd a5 1 1), (upd a6 1 1), (upd a7 1 1), (upd a8 1 (gc_val p)), a9, a10, a11, a12, a13, a14)) :
    wpX_add post (0, (nI 1), f3, f4, f5, f6, f7, f8, a1, a2, a3, a4, a5, a6, a7, a8, a9, a10, a11, a12, a13, a14) p := by
  unfold wpX_add
  refine Exists.intro 1 (br_f (by decide) (br_t rfl ?_))
  unfold wX_add_93
  refine br_t rfl (gc_new 1 (by decide) (by decide) h5 h6 h7 h8 ?_)
  refine br_t rfl ?_
  unfold wX_add_177
  exact gc_mend0 h
/-- the root once more -/
theorem gc_add1 {post : St2 → Prop} {f2 f3 f4 f5 f6 f7 f8 : Int32} {a1 : Nat → Int64} {a2 a3 a4 a5 a6 a7 a8 a9 a10 a11 a12 a13 a14 : Nat → Int32} {p : Int64} (h1 : a1 1 = p) (h3 : a3 1 = 0) (h4 : a4 1 = 0) (h5 : a5 0 = 0)
    (h : ∀ b9 : Nat → Int32, post ((nI 1), f2, 1, f4, f5, f6, f7, f8, a1, (upd a2 1 (a2 1 + 1)), a3, a4, (upd a5 1 (1 + 0)), (upd a6 1 ((a6 0 + a6 0) + (a2 1 + 1))), (upd a7 1 ((a7 0 + a7 0) + 1)), (upd a8 1 ((a8 0 + a8 0) + (a2 1 + 1) * gc_val (a1 1))), b9, a10, a11, a12, a13, a14)) :
    wpX_add post ((nI 1), f2, f3, f4, f5, f6, f7, f8, a1, a2, a3, a4, a5, a6, a7, a8, a9, a10, a11, a12, a13, a14) p := by
  unfold wpX_add
  refine Exists.intro 2 (br_f (by decide) (br_f (by decide) (br_t rfl ?_)))
  unfold wpX_step
  refine ⟨pk_in 0 16 (by decide), nm_r (e' := upd a9 0 (nI 1)) rfl (nm_r (e' := 1) (by decide) ?_)⟩
  refine And.intro (pk_in 1 41 (by decide)) (br_t h1 ?_)
  unfold wX_add_53
  refine br_f (by decide) (nm_r (e' := nI 1) (by decide) ?_)
  refine br_f (by decide) (br_f (by decide) (br_f (by decide) ?_))
  unfold wX_add_93
  refine br_f (by decide) ⟨pk_in 1 41 (by decide), pk_in 1 41 (by decide), nm_e ?_⟩
  unfold wX_add_177
  refine gc_mend1 (pk_us : upd a9 0 (nI 1) 0 = nI 1) (fun Q hq => gc_balance 1 0 0 0 (by decide) (by decide) (by decide) (by decide) (by decide) h3 h4 (fun _ => h5) (fun _ => h5) (by rw [h5]; decide) (by rw [h5]; decide) hq) ?_
  have := h (upd a9 0 (nI 1))
  rw [show upd a2 (nI 1).toNatClampNeg (a2 (nI 1).toNatClampNeg + 1) = upd a2 1 (a2 1 + 1) from rfl, pk_us]
  exact this
end
section
/-- left of the root -/
theorem gc_addL {post : St2 → Prop} {f3 f4 f5 f6 f7 f8 : Int32} {a1 : Nat → Int64} {a2 a3 a4 a5 a6 a7 a8 a9 a10 a11 a12 a13 a14 : Nat → Int32} {p q s e : Int64} (h1 : a1 1 = p) (h2 : a2 1 = 1) (h3 : a3 1 = 0) (h4 : a4 1 = 0) (h5 : a5 0 = 0) (h6 : a6 0 = 0) (h7 : a7 0 = 0) (h8 : a8 0 = 0)
    (hne : ¬ p = q) (hle : ¬ p ≤ q) (hs : s ≤ p) (he : ¬ e ≤ p) (ks : s ≤ q)
    (h : ∀ (g2 : Int32) (b1 : Nat → Int64) (b2 b3 b4 b5 b6 b7 b8 b9 : Nat → Int32), gc_G s e 2 (gc_val q + gc_val p) q p q 2 (nI 1) b1 b2 b3 b4 b5 b6 b7 b8 → b6 1 = 2 →
      post ((nI 1), g2, 1, f4, f5, f6, f7, f8, b1, b2, b3, b4, b5, b6, b7, b8, b9, a10, a11, a12, a13, a14)) :
    wpX_add post ((nI 1), (nI 2), f3, f4, f5, f6, f7, f8, a1, a2, a3, a4, a5, a6, a7, a8, a9, a10, a11, a12, a13, a14) q := by
  unfold wpX_add
  refine Exists.intro 2 (br_f (by decide) (br_f (by decide) (br_t rfl ?_)))
  unfold wpX_step
  refine ⟨pk_in 0 16 (by decide), nm_r (e' := upd a9 0 (nI 1)) rfl (nm_r (e' := 1) (by decide) ?_)⟩
  refine And.intro (pk_in 1 41 (by decide)) (br_f (by rw [← h1] at hne; exact hne) ?_)
  unfold wX_add_53
  refine br_t rfl ⟨pk_in 1 41 (by decide), br_f (by rw [← h1] at hle; exact hle) ⟨pk_in 1 41 (by decide), nm_r (e' := 0) h3 (nm_r (e' := nI 1) (by decide) ?_)⟩⟩
  refine br_f (by decide) (br_t rfl ?_)
  unfold wX_add_93
  refine br_t rfl (gc_new 2 (by decide) (by decide) h5 h6 h7 h8 ?_)
  refine br_f (by decide) ⟨pk_in 0 16 (by decide), pk_in 0 16 (by decide), pk_in 1 41 (by decide), br_f (by rw [← h1] at hle; exact hle) ?_⟩
  unfold wX_add_172 wpX_attach
  refine br_f (by decide) ⟨pk_in 1 41 (by decide), nm_r (e' := upd (upd a3 2 0) 1 (nI 2)) rfl ?_⟩
  unfold wX_add_177
  refine gc_mend1 rfl (fun Q hq => gc_balance 1 2 0 1 (by decide) (by decide) (by decide) (by decide) (by decide) rfl h4 ?_ (fun _ => rfl) ?_ ?_ hq) ?_
  · intro z
    rw [show upd a5 2 1 2 = 1 from rfl, show upd a5 2 1 0 = 0 from h5] at z
    exact absurd z (by decide)
  · rw [show upd a5 2 1 2 = 1 from rfl, show upd a5 2 1 0 = 0 from h5]
    decide
  · rw [show upd a5 2 1 2 = 1 from rfl, show upd a5 2 1 0 = 0 from h5]
    decide
  · refine h _ _ _ _ _ _ _ _ _ _ (gc_G2 rfl h1 rfl h2 rfl rfl rfl h4 h6 rfl rfl rfl hs he ks) ?_
    rw [pk_us, show upd a6 2 1 2 = 1 from rfl, show upd a6 2 1 0 = 0 from h6, show upd a2 2 1 1 = 1 from h2]
    decide
/-- right of the root -/
theorem gc_addR {post : St2 → Prop} {f3 f4 f5 f6 f7 f8 : Int32} {a1 : Nat → Int64} {a2 a3 a4 a5 a6 a7 a8 a9 a10 a11 a12 a13 a14 : Nat → Int32} {p q s e : Int64} (h1 : a1 1 = p) (h2 : a2 1 = 1) (h3 : a3 1 = 0) (h4 : a4 1 = 0) (h5 : a5 0 = 0) (h6 : a6 0 = 0) (h7 : a7 0 = 0) (h8 : a8 0 = 0)
    (hne : ¬ p = q) (hle : p ≤ q) (hs : s ≤ p) (he : ¬ e ≤ p) (ke : ¬ e ≤ q)
    (h : ∀ (g2 : Int32) (b1 : Nat → Int64) (b2 b3 b4 b5 b6 b7 b8 b9 : Nat → Int32), gc_G s e 2 (gc_val p + gc_val q) p q p 2 (nI 1) b1 b2 b3 b4 b5 b6 b7 b8 → b6 1 = 2 →
      post ((nI 1), g2, 1, f4, f5, f6, f7, f8, b1, b2, b3, b4, b5, b6, b7, b8, b9, a10, a11, a12, a13, a14)) :
    wpX_add post ((nI 1), (nI 2), f3, f4, f5, f6, f7, f8, a1, a2, a3, a4, a5, a6, a7, a8, a9, a10, a11, a12, a13, a14) q := by
  unfold wpX_add
  refine Exists.intro 2 (br_f (by decide) (br_f (by decide) (br_t rfl ?_)))
  unfold wpX_step
  refine ⟨pk_in 0 16 (by decide), nm_r (e' := upd a9 0 (nI 1)) rfl (nm_r (e' := 1) (by decide) ?_)⟩
  refine And.intro (pk_in 1 41 (by decide)) (br_f (by rw [← h1] at hne; exact hne) ?_)
  unfold wX_add_53
  refine br_t rfl ⟨pk_in 1 41 (by decide), br_t (by rw [← h1] at hle; exact hle) ⟨pk_in 1 41 (by decide), nm_r (e' := 0) h4 (nm_r (e' := nI 1) (by decide) ?_)⟩⟩
  refine br_f (by decide) (br_t rfl ?_)
  unfold wX_add_93
  refine br_t rfl (gc_new 2 (by decide) (by decide) h5 h6 h7 h8 ?_)
  refine br_f (by decide) ⟨pk_in 0 16 (by decide), pk_in 0 16 (by decide), pk_in 1 41 (by decide), br_t (by rw [← h1] at hle; exact hle) ?_⟩
  unfold wX_add_172 wpX_attach
  refine br_t rfl ⟨pk_in 1 41 (by decide), nm_r (e' := upd (upd a4 2 0) 1 (nI 2)) rfl ?_⟩
  unfold wX_add_177
  refine gc_mend1 rfl (fun Q hq => gc_balance 1 0 2 1 (by decide) (by decide) (by decide) (by decide) (by decide) h3 rfl (fun _ => rfl) ?_ ?_ ?_ hq) ?_
  · intro z
    rw [show upd a5 2 1 2 = 1 from rfl, show upd a5 2 1 0 = 0 from h5] at z
    exact absurd (show (0 : Int32) ≤ 1 by decide) z
  · rw [show upd a5 2 1 2 = 1 from rfl, show upd a5 2 1 0 = 0 from h5]
    decide
  · rw [show upd a5 2 1 2 = 1 from rfl, show upd a5 2 1 0 = 0 from h5]
    decide
  · refine h _ _ _ _ _ _ _ _ _ _ (gc_G3 rfl h1 rfl h2 rfl h3 rfl rfl rfl h6 h7 h8 hs he ke) ?_
    rw [pk_us, show upd a6 2 1 2 = 1 from rfl, show upd a6 2 1 0 = 0 from h6, show upd a2 2 1 1 = 1 from h2]
    decide
/-- a second row of the same key -/
theorem gc_addT {post : St2 → Prop} {f3 f4 f5 f6 f7 f8 : Int32} {a1 : Nat → Int64} {a2 a3 a4 a5 a6 a7 a8 a9 a10 a11 a12 a13 a14 : Nat → Int32} {j : Nat} {v w : Int32} (hj : j < 8) (h1 : a1 1 = gc_pl j v) (h2 : a2 1 = 1) (h3 : a3 1 = 0) (h4 : a4 1 = 0) (h5 : a5 0 = 0) (h6 : a6 0 = 0) (h7 : a7 0 = 0) (h8 : a8 0 = 0)
    (h : ∀ (g2 : Int32) (b1 : Nat → Int64) (b2 b3 b4 b5 b6 b7 b8 b9 : Nat → Int32) (p0 p1 p2 : Int64) (kd : Int32),
      gc_G (lN (j * 4294967296)) (lN ((j + 1) * 4294967296)) 2 (v + w) p0 p1 p2 kd (nI 1) b1 b2 b3 b4 b5 b6 b7 b8 → b6 1 = 2 →
      (v = w → kd = 1) → (¬ v = w → kd = 2) → (w ≤ v → gc_val p2 = w) → (¬ w ≤ v → gc_val p2 = v) →
      post ((nI 1), g2, 1, f4, f5, f6, f7, f8, b1, b2, b3, b4, b5, b6, b7, b8, b9, a10, a11, a12, a13, a14)) :
    wpX_add post ((nI 1), (nI 2), f3, f4, f5, f6, f7, f8, a1, a2, a3, a4, a5, a6, a7, a8, a9, a10, a11, a12, a13, a14) (gc_pl j w) := by
  have ev := gc_valp hj v
  have ew := gc_valp hj w
  by_cases e : v = w
  · subst e
    refine gc_add1 h1 h3 h4 h5 (fun b9 => ?_)
    have G := gc_G1 (f1 := nI 1) (a1 := a1) (a2 := upd a2 1 (a2 1 + 1)) (a3 := a3) (a4 := a4) (a5 := upd a5 1 (1 + 0)) (a6 := upd a6 1 ((a6 0 + a6 0) + (a2 1 + 1))) (a7 := upd a7 1 ((a7 0 + a7 0) + 1)) (a8 := upd a8 1 ((a8 0 + a8 0) + (a2 1 + 1) * gc_val (a1 1)))
      (t := 2) (Or.inr rfl) rfl h1 (by rw [pk_us, h2]; rfl) h3 h4 h6 h7 h8 (gc_lo hj v) (gc_hi hj v)
    rw [ev, show nI 2 * v = v + v from by rw [show nI 2 = (2 : Int32) from rfl]; grind] at G
    exact h _ _ _ _ _ _ _ _ _ b9 _ _ _ _ G (by rw [pk_us, h6, h2]; decide) (fun _ => rfl) (fun z => absurd rfl z) (fun _ => ev) (fun _ => ev)
  · have hne : ¬ gc_pl j v = gc_pl j w := fun z => e ((gc_plE hj v w).mp z)
    by_cases o : v ≤ w
    · refine gc_addR h1 h2 h3 h4 h5 h6 h7 h8 hne ((gc_plL hj v w).mpr o) (gc_lo hj v) (gc_hi hj v) (gc_hi hj w) (fun g2 b1 b2 b3 b4 b5 b6 b7 b8 b9 G hb => ?_)
      rw [ev, ew] at G
      exact h g2 b1 b2 b3 b4 b5 b6 b7 b8 b9 _ _ _ _ G hb (fun z => absurd z e) (fun _ => rfl) (fun z => absurd (Int32.le_antisymm o z) e) (fun _ => ev)
    · refine gc_addL h1 h2 h3 h4 h5 h6 h7 h8 hne (fun z => o ((gc_plL hj v w).mp z)) (gc_lo hj v) (gc_hi hj v) (gc_lo hj w) (fun g2 b1 b2 b3 b4 b5 b6 b7 b8 b9 G hb => ?_)
      rw [ev, ew, Int32.add_comm] at G
      exact h g2 b1 b2 b3 b4 b5 b6 b7 b8 b9 _ _ _ _ G hb (fun z => absurd z e) (fun _ => rfl) (fun _ => ew) (fun z => absurd (Int32.le_of_lt (Int32.not_le.mp o)) z)
end
section
theorem gc_ix (d i : Nat) : 6 * (nI (d + 1) - 1) + nI i = nI (6 * d + i) := by
  rw [nI_pred, show (6 : Int32) = nI 6 from rfl, pk_mul, nI_add]
theorem gc_l133 {post : St2 → Prop} {f1 f2 f3 f4 f5 f6 f7 : Int32} {a1 : Nat → Int64} {a2 a3 a4 a5 a6 a7 a8 a9 a10 a11 a12 a13 a14 : Nat → Int32} (d : Nat) (hd : d < 24) (H : ∀ c : Nat → Int32, (∀ k, k < 6 → c (6 * d + k) = a11 k) → post (f1, f2, f3, f4, f5, f6, f7, (nI (d + 1)), a1, a2, a3, a4, a5, a6, a7, a8, a9, a10, a11, a12, a13, c)) :
    ∃ fu, wX_logChange_133 post f1 f2 f3 f4 f5 f6 f7 (nI (d + 1)) fu 0 a1 a2 a3 a4 a5 a6 a7 a8 a9 a10 a11 a12 a13 a14 :=
  pk_loop (fun n i s => wX_logChange_133 post f1 f2 f3 f4 f5 f6 f7 (nI (d + 1)) n (nI i) a1 a2 a3 a4 a5 a6 a7 a8 a9 a10 a11 a12 a13 s) (fun i s => ∀ k, k < i → s (6 * d + k) = a11 k) 6 0 a14 (by omega) (fun j hj => absurd hj (by omega))
    (fun n s h => pk_le 6 6 (fun _ => H s h) (fun z => absurd z (by omega)))
    (fun n i s hi h hw => pk_le 6 i (fun z => absurd z (by omega)) (fun _ => ⟨pk_in i 6 hi, pk_in (6 * d + i) 144 (by omega) (gc_ix d i),
      nm_r (e' := upd s (6 * d + i) (a11 i)) (by rw [gc_ix, nI_clamp (by omega), nI_clamp (by omega)]) (nm_r (nI_1 i) (hw _ (by
        intro k hk
        by_cases e : k = i
        · rw [e, pk_us]
        · rw [pk_un (by omega)]
          exact h k (by omega))))⟩))
theorem gc_l84 {post : St2 → Prop} {x1 : Int32} {f1 f2 f3 f4 f5 f6 f7 : Int32} {a1 : Nat → Int64} {a2 a3 a4 a5 a6 a7 a8 a9 a10 a11 a12 a13 a14 : Nat → Int32} (d : Nat) (hd : d < 24) (H : ∀ c : Nat → Int32, wX_logChange_118 post x1 f1 f2 f3 f4 f5 f6 f7 (nI (d + 1)) a1 a2 a3 a4 a5 a6 a7 a8 a9 a10 a11 a12 a13 c) :
    ∃ fu, wX_logChange_84 post x1 f1 f2 f3 f4 f5 f6 f7 (nI (d + 1)) fu 0 a1 a2 a3 a4 a5 a6 a7 a8 a9 a10 a11 a12 a13 a14 :=
  pk_loop (fun n i s => wX_logChange_84 post x1 f1 f2 f3 f4 f5 f6 f7 (nI (d + 1)) n (nI i) a1 a2 a3 a4 a5 a6 a7 a8 a9 a10 a11 a12 a13 s) (fun _ _ => True) 6 0 a14 (by omega) trivial
    (fun n s h => pk_le 6 6 (fun _ => H s) (fun z => absurd z (by omega)))
    (fun n i s hi h hw => pk_le 6 i (fun z => absurd z (by omega)) (fun _ => ⟨pk_in i 6 hi, pk_in (6 * d + i) 144 (by omega) (gc_ix d i), nm_e (nm_r (nI_1 i) (hw _ trivial))⟩))
theorem gc_l118 {post : St2 → Prop} {x1 : Int32} {f1 f2 f3 f4 f5 f6 : Int32} {a1 : Nat → Int64} {a2 a3 a4 a5 a6 a7 a8 a9 a10 a11 a12 a13 a14 : Nat → Int32} (d : Nat) (hd : d < 24)
    (H : ∀ b13 c : Nat → Int32, (∀ k, k < 6 → c (6 * d + k) = a11 k) → post (f1, f2, f3, f4, f5, f6, 1, (nI (d + 1)), a1, a2, a3, a4, a5, a6, a7, a8, a9, a10, a11, (upd a12 d 2), b13, c)) :
    wX_logChange_118 post x1 f1 f2 f3 f4 f5 f6 1 (nI d) a1 a2 a3 a4 a5 a6 a7 a8 a9 a10 a11 a12 a13 a14 := by
  have cd : (nI d).toNatClampNeg = d := nI_clamp (by omega)
  have vd : vp_in (nI d) 24 := vp_in_nI hd (by omega)
  unfold wX_logChange_118
  refine br_f (by decide) ?_
  unfold wpX_startEntry
  exact ⟨vd, nm_r (e' := upd a12 d 2) (by rw [cd]) ⟨vd, nm_e (nm_r (nI_1 d) (gc_l133 d hd (fun c hc => H _ c hc)))⟩⟩
theorem gc_l27 {post : St2 → Prop} {x1 : Int32} {f1 f2 f3 f4 f5 f6 f7 f8 : Int32} {a1 : Nat → Int64} {a2 a3 a4 a5 a6 a7 a8 a9 a10 a11 a12 a13 a14 : Nat → Int32} (i0 : Nat) (hi : i0 ≤ 6) (H : ∀ n, wX_logChange_27 post x1 f1 f2 f3 f4 f5 f6 f7 f8 a1 a2 a3 a4 a5 a6 a7 a8 a9 a10 a11 a12 a13 a14 (n + 1) 0 (nI 6)) :
    ∃ fu, wX_logChange_27 post x1 f1 f2 f3 f4 f5 f6 f7 f8 a1 a2 a3 a4 a5 a6 a7 a8 a9 a10 a11 a12 a13 a14 fu 0 (nI i0) :=
  pk_loop (σ := Unit) (fun n i _ => wX_logChange_27 post x1 f1 f2 f3 f4 f5 f6 f7 f8 a1 a2 a3 a4 a5 a6 a7 a8 a9 a10 a11 a12 a13 a14 n 0 (nI i)) (fun _ _ => True) 6 i0 () hi trivial
    (fun n _ _ => H n)
    (fun n i _ hi _ hw => pk_le 6 i (fun z => absurd z (by omega)) (fun _ => br_t rfl (nm_r (nI_1 i) (hw () trivial))))
/-- the first row's entry -/
theorem gc_log1 {post : St2 → Prop} {f1 f2 f3 f7 : Int32} {a1 : Nat → Int64} {a2 a3 a4 a5 a6 a7 a8 a9 a10 a11 a12 a13 a14 : Nat → Int32} {j n : Nat} {sm : Int32} {p0 p1 p2 : Int64} {kd : Int32} (hj : j < 8) (hn : 0 < n) (hn2 : n < 41) (hk : ¬ 40 < kd)
    (G : gc_G (lN (j * 4294967296)) (lN ((j + 1) * 4294967296)) n sm p0 p1 p2 kd f1 a1 a2 a3 a4 a5 a6 a7 a8)
    (hp : ∀ b b12 b13 c : Nat → Int32, post (f1, f2, f3, 1, 40, 0, 1, (nI 1), a1, a2, a3, a4, a5, a6, a7, a8, a9, a10, b, b12, b13, c)) : wpX_logChange post (f1, f2, f3, 1, 40, 0, f7, (nI 0), a1, a2, a3, a4, a5, a6, a7, a8, a9, a10, a11, a12, a13, a14) (nI j) := by
  unfold wpX_logChange
  refine gc_describe hj hn hn2 hk G (fun b _ _ _ _ => br_t rfl (gc_l27 0 (by omega) (fun n => ?_)))
  exact pk_le 6 6 (fun _ => br_t rfl (br_t rfl (gc_l118 0 (by decide) (fun b13 c _ => hp b _ b13 c)))) (fun z => absurd z (by omega))
/-- the second row's two entries -/
theorem gc_log2 {post : St2 → Prop} {f1 f2 f3 f7 : Int32} {a1 : Nat → Int64} {a2 a3 a4 a5 a6 a7 a8 a9 a10 a11 a12 a13 a14 : Nat → Int32} {j : Nat} {sm : Int32} {p0 p1 p2 : Int64} {kd : Int32} (hj : j < 8) (hk : ¬ 40 < kd) (h10 : a10 0 = nI 1)
    (G : gc_G (lN (j * 4294967296)) (lN ((j + 1) * 4294967296)) 2 sm p0 p1 p2 kd f1 a1 a2 a3 a4 a5 a6 a7 a8)
    (hp : ∀ b b12 b13 c : Nat → Int32, b12 1 = 1 → b12 2 = 2 → c 13 = sm → c 17 = gc_val p2 → post (f1, f2, f3, 1, 40, 1, 1, (nI 3), a1, a2, a3, a4, a5, a6, a7, a8, a9, a10, b, b12, b13, c)) :
    wpX_logChange post (f1, f2, f3, 1, 40, 1, f7, (nI 1), a1, a2, a3, a4, a5, a6, a7, a8, a9, a10, a11, a12, a13, a14) (nI j) := by
  unfold wpX_logChange
  refine gc_describe hj (by decide) (by decide) hk G (fun b e0 e1 _ e5 => br_f (by decide) (br_f (by decide) ?_))
  have H : ∃ fu, wX_logChange_27 post (nI j) f1 f2 f3 1 40 1 1 (nI 1) a1 a2 a3 a4 a5 a6 a7 a8 a9 a10 b a12 a13 a14 fu 0 (nI 1) := by
    refine gc_l27 1 (by omega) (fun n => ?_)
    refine pk_le 6 6 (fun _ => br_t rfl (br_f (by decide) ?_)) (fun z => absurd z (by omega))
    unfold wpX_startEntry
    refine ⟨pk_in 1 24 (by decide), nm_r (e' := upd a12 1 1) rfl ⟨pk_in 1 24 (by decide), nm_e (nm_r (nI_1 1) (gc_l84 1 (by decide) (fun c0 => gc_l118 2 (by decide) (fun b13 c hc => ?_))))⟩⟩
    exact hp b _ b13 c rfl rfl ((hc 1 (by decide)).trans e1) ((hc 5 (by decide)).trans e5)
  obtain ⟨m, hm⟩ := H
  refine Exists.intro (m + 1) (br_f (by decide) (br_f (by decide) ⟨pk_in 0 6 (by decide), pk_in 0 6 (by decide), br_f ?_ (nm_r (e' := nI 1) (by decide) hm)⟩))
  intro z
  have z' : nI 1 = nI 2 := h10.symm.trans ((show a10 0 = b 0 from z).trans e0)
  exact absurd z' (by decide)
end
section
/-- a new object: the free nodes begin 1, 2 -/
theorem gc_init {post : St2 → Prop} (hp : ∀ m : Nat → Int32, m 1 = nI 2 → post (0, nI 1, 0, 1, 40, 0, 0, nI 0, (fun _ => 0), (fun _ => 0), m, (fun _ => 0), (fun _ => 0), (fun _ => 0), (fun _ => 0), (fun _ => 0), (fun _ => 0), (fun _ => 0), (fun _ => 0), (fun _ => 0), (fun _ => 0), (fun _ => 0))) :
    wpX_init post 14 548 (0, 0, 0, 0, 0, 0, 0, 0) := by
  unfold wpX_init
  refine ⟨by decide, by decide, by decide, by decide, by decide, by decide, by decide, by decide, by decide, by decide, by decide, by decide, by decide, by decide, by decide, by decide, by decide, by decide, by decide, by decide, by decide, by decide, by decide, by decide, by decide, by decide, by decide, by decide, ?_⟩
  refine pk_loop (fun n i s => wX_init_130 post 14 548 14 548 0 0 0 1 40 0 0 0 n (nI i) (fun _ => 0) (fun _ => 0) s (fun _ => 0) (fun _ => 0) (fun _ => 0) (fun _ => 0) (fun _ => 0) (fun _ => 0) (fun _ => 0) (fun _ => 0) (fun _ => 0) (fun _ => 0) (fun _ => 0))
    (fun i s => 1 ≤ i ∧ (1 < i → s 1 = nI 2)) 41 1 (fun _ => 0) (by omega) ⟨by omega, fun h => absurd h (by omega)⟩
    (fun n s h => pk_le 41 41 (fun _ => hp s (h.2 (by omega))) (fun z => absurd z (by omega)))
    (fun n i s hi h hw => pk_le 41 i (fun z => absurd z (by omega)) (fun _ => pk_eq i 40
      (fun e => ⟨pk_in i 41 hi, nm_r (e' := upd s i 0) (by rw [nI_clamp (by omega)]) (nm_r (nI_1 i) (hw _ ⟨by omega, fun _ => ?_⟩))⟩)
      (fun e => ⟨pk_in i 41 hi, nm_r (e' := upd s i (nI (i + 1))) (by rw [nI_clamp (by omega), nI_1]) (nm_r (nI_1 i) (hw _ ⟨by omega, fun _ => ?_⟩))⟩)))
  · rw [pk_un (by omega)]
    exact h.2 (by omega)
  · by_cases g : 1 = i
    · rw [← g, pk_us]
    · rw [pk_un g]
      exact h.2 (by omega)
/-- one node, one row -/
def gc_T (j : Nat) (v : Int32) (a1 : Nat → Int64) (a2 a3 a4 a5 a6 a7 a8 : Nat → Int32) : Prop :=
  a1 1 = gc_pl j v ∧ a2 1 = 1 ∧ a3 1 = 0 ∧ a4 1 = 0 ∧ a5 0 = 0 ∧ a6 0 = 0 ∧ a7 0 = 0 ∧ a8 0 = 0 ∧ a6 1 = 1
theorem gc_ins1 {post : Int32 → St2 → Prop} {f3 f6 f7 : Int32} {a1 : Nat → Int64} {a2 a3 a4 a5 a6 a7 a8 a9 a10 a11 a12 a13 a14 : Nat → Int32} {j : Nat} {v : Int32} (hj : j < 8) (h3 : a3 1 = nI 2) (h5 : a5 0 = 0) (h6 : a6 0 = 0) (h7 : a7 0 = 0) (h8 : a8 0 = 0)
    (hp : ∀ (g3 g6 g7 : Int32) (b1 : Nat → Int64) (b2 b3 b4 b5 b6 b7 b8 b9 b10 b11 b12 b13 b14 : Nat → Int32), gc_T j v b1 b2 b3 b4 b5 b6 b7 b8 →
      post 1 ((nI 1), (nI 2), g3, 1, 40, g6, g7, (nI 1), b1, b2, b3, b4, b5, b6, b7, b8, b9, b10, b11, b12, b13, b14)) :
    wpX_insert post (0, (nI 1), f3, 1, 40, f6, f7, (nI 0), a1, a2, a3, a4, a5, a6, a7, a8, a9, a10, a11, a12, a13, a14) (nI j) v := by
  unfold wpX_insert
  refine br_f (nI_pos (by omega)) (br_f (fun y => absurd (show nI 7 < nI j from y) (by rw [nI_ltI (by omega) (by omega)]; omega)) ⟨pk_in 0 41 (by decide), br_f ?_ (br_t (by decide) (gc_note0 hj (fun b c => ?_)))⟩)
  · show ¬ 40 ≤ a6 0
    rw [h6]
    decide
  refine gc_pV hj (gc_add0 h5 h6 h7 h8 ?_)
  rw [h3]
  refine gc_log1 hj (n := 1) (by decide) (by decide) (by decide) (gc_G1 (Or.inl rfl) rfl pk_uLs rfl rfl rfl h6 h7 h8 (gc_lo hj v) (gc_hi hj v)) (fun b11 b12 b13 b14 => And.intro (pk_in 1 41 (by decide)) ?_)
  exact hp _ _ _ _ _ _ _ _ _ _ _ _ _ b11 b12 b13 b14 ⟨pk_uLs, rfl, rfl, rfl, h5, h6, h7, h8, rfl⟩
theorem gc_ins2 {post : Int32 → St2 → Prop} {f3 f6 f7 : Int32} {a1 : Nat → Int64} {a2 a3 a4 a5 a6 a7 a8 a9 a10 a11 a12 a13 a14 : Nat → Int32} {j : Nat} {v w : Int32} (hj : j < 8) (T : gc_T j v a1 a2 a3 a4 a5 a6 a7 a8)
    (hp : ∀ (g2 g3 g6 g7 : Int32) (b1 : Nat → Int64) (b2 b3 b4 b5 b6 b7 b8 b9 b10 b11 b12 b13 b14 : Nat → Int32) (p0 p1 p2 : Int64) (kd : Int32),
      gc_G (lN (j * 4294967296)) (lN ((j + 1) * 4294967296)) 2 (v + w) p0 p1 p2 kd (nI 1) b1 b2 b3 b4 b5 b6 b7 b8 → (v = w → kd = 1) → (¬ v = w → kd = 2) → ¬ 40 < kd →
      (w ≤ v → gc_val p2 = w) → (¬ w ≤ v → gc_val p2 = v) → b12 1 = 1 → b12 2 = 2 → b14 13 = v + w → b14 17 = gc_val p2 →
      post 2 ((nI 1), g2, g3, 1, 40, g6, g7, (nI 3), b1, b2, b3, b4, b5, b6, b7, b8, b9, b10, b11, b12, b13, b14)) :
    wpX_insert post ((nI 1), (nI 2), f3, 1, 40, f6, f7, (nI 1), a1, a2, a3, a4, a5, a6, a7, a8, a9, a10, a11, a12, a13, a14) (nI j) w := by
  obtain ⟨h1, h2, h3, h4, h5, h6, h7, h8, k6⟩ := T
  unfold wpX_insert
  refine br_f (nI_pos (by omega)) (br_f (fun y => absurd (show nI 7 < nI j from y) (by rw [nI_ltI (by omega) (by omega)]; omega)) ⟨pk_in 1 41 (by decide), br_f ?_ (br_t (by decide)
    (gc_note hj (n := 1) (by decide) (by decide) (by decide) (gc_G1 (Or.inl rfl) rfl h1 h2 h3 h4 h6 h7 h8 (gc_lo hj v) (gc_hi hj v)) (fun b10 b11 hb => ?_)))⟩)
  · show ¬ 40 ≤ a6 1
    rw [k6]
    decide
  refine gc_pV hj (gc_addT hj h1 h2 h3 h4 h5 h6 h7 h8 (fun g2 b1 b2 b3 b4 b5 b6 b7 b8 b9 p0 p1 p2 kd G e6 d1 d2 d3 d4 => ?_))
  have hk : ¬ 40 < kd := by
    by_cases e : v = w
    · rw [d1 e]
      decide
    · rw [d2 e]
      decide
  refine gc_log2 hj hk hb G (fun b11 b12 b13 b14 c1 c2 c3 c4 => And.intro (pk_in 1 41 (by decide)) ?_)
  have t := hp g2 1 1 1 b1 b2 b3 b4 b5 b6 b7 b8 b9 b10 b11 b12 b13 b14 p0 p1 p2 kd G d1 d2 hk d3 d4 c1 c2 c3 c4
  rw [show b6 (nI 1).toNatClampNeg = 2 from e6]
  exact t
end
section
theorem gc_sx (g d : Nat) : nI (g + d) - nI g = nI d := by
  rw [pk_sub (by omega), show g + d - g = d by omega]
theorem gc_i1 (d i : Nat) : 6 * nI d + nI i = nI (6 * d + i) := by
  rw [show (6 : Int32) = nI 6 from rfl, pk_mul, nI_add]
/-- one entry's fields move g entries down -/
theorem gc_t66 {post : Int32 → St2 → Prop} {J : Int32 → (Nat → Int64) → (Nat → Int32) → (Nat → Int32) → (Nat → Int32) → (Nat → Int32) → (Nat → Int32) → (Nat → Int32) → (Nat → Int32) → (Nat → Int32) → (Nat → Int32) → (Nat → Int32) → (Nat → Int32) → (Nat → Int32) → (Nat → Int32) → Prop}
    {f1 f2 f3 f4 f5 f6 f7 f8 : Int32} {a1 : Nat → Int64} {a2 a3 a4 a5 a6 a7 a8 a9 a10 a11 a12 a13 a14 : Nat → Int32} {o : Nat → Int32} (g d : Nat) (hd : g + d < 24) (h1 : ∀ k, k < 6 * d → a14 k = o (k + 6 * g)) (h2 : ∀ k, 6 * d ≤ k → a14 k = o k)
    (H : ∀ c : Nat → Int32, (∀ k, k < 6 * (d + 1) → c k = o (k + 6 * g)) → (∀ k, 6 * (d + 1) ≤ k → c k = o k) → J (nI (g + (d + 1))) a1 a2 a3 a4 a5 a6 a7 a8 a9 a10 a11 a12 a13 c) :
    ∃ fu, wX_take_66 post J (nI g) (nI (g + d)) f1 f2 f3 f4 f5 f6 f7 f8 fu 0 a1 a2 a3 a4 a5 a6 a7 a8 a9 a10 a11 a12 a13 a14 := by
  refine pk_loop (fun n i s => wX_take_66 post J (nI g) (nI (g + d)) f1 f2 f3 f4 f5 f6 f7 f8 n (nI i) a1 a2 a3 a4 a5 a6 a7 a8 a9 a10 a11 a12 a13 s)
    (fun i s => (∀ k, k < 6 * d + i → s k = o (k + 6 * g)) ∧ (∀ k, 6 * d + i ≤ k → s k = o k)) 6 0 a14 (by omega) ⟨h1, h2⟩
    (fun n s h => pk_le 6 6 (fun _ => nm_r (nI_1 (g + d)) (H s (fun k hk => h.1 k (by omega)) (fun k hk => h.2 k (by omega)))) (fun z => absurd z (by omega)))
    (fun n i s hi h hw => pk_le 6 i (fun z => absurd z (by omega)) (fun _ => ⟨pk_in (6 * (g + d) + i) 144 (by omega) (gc_i1 _ _), pk_in (6 * d + i) 144 (by omega) (by rw [gc_sx, gc_i1]),
      nm_r (e' := upd s (6 * d + i) (s (6 * (g + d) + i))) (by rw [gc_sx, gc_i1, gc_i1, nI_clamp (by omega), nI_clamp (by omega)]) (nm_r (nI_1 i) (hw _ ⟨fun k hk => ?_, fun k hk => ?_⟩))⟩))
  · by_cases e : k = 6 * d + i
    · rw [e, pk_us, h.2 _ (by omega)]
      congr 1
      omega
    · rw [pk_un e]
      exact h.1 k (by omega)
  · rw [pk_un (by omega)]
    exact h.2 k (by omega)
theorem gc_t27 {post : Int32 → St2 → Prop} {f1 f2 f3 f4 f5 f6 f7 : Int32} {a1 : Nat → Int64} {a2 a3 a4 a5 a6 a7 a8 a9 a10 a11 a12 a13 a14 : Nat → Int32} (g : Nat) (hg : g ≤ 3)
    (H : ∀ b12 b13 b14 : Nat → Int32, (∀ k, k < 3 - g → b12 k = a12 (k + g)) → (∀ k, k < 6 * (3 - g) → b14 k = a14 (k + 6 * g)) → post (nI g) (f1, f2, f3, f4, f5, f6, f7, (nI (3 - g)), a1, a2, a3, a4, a5, a6, a7, a8, a9, a10, a11, b12, b13, b14)) :
    ∃ fu, wX_take_27 post (nI g) f1 f2 f3 f4 f5 f6 f7 (nI 3) fu (nI g) a1 a2 a3 a4 a5 a6 a7 a8 a9 a10 a11 a12 a13 a14 := by
  refine pk_loop (σ := (Nat → Int32) × (Nat → Int32) × (Nat → Int32)) (fun n d s => wX_take_27 post (nI g) f1 f2 f3 f4 f5 f6 f7 (nI 3) n (nI (g + d)) a1 a2 a3 a4 a5 a6 a7 a8 a9 a10 a11 s.1 s.2.1 s.2.2)
    (fun d s => (∀ k, k < d → s.1 k = a12 (k + g)) ∧ (∀ k, d ≤ k → s.1 k = a12 k) ∧ (∀ k, k < 6 * d → s.2.2 k = a14 (k + 6 * g)) ∧ (∀ k, 6 * d ≤ k → s.2.2 k = a14 k)) (3 - g) 0 (a12, a13, a14) (by omega)
    ⟨fun k hk => absurd hk (by omega), fun k hk => rfl, fun k hk => absurd hk (by omega), fun k hk => rfl⟩
    (fun n s h => pk_le 3 (g + (3 - g)) (fun _ => nm_r (pk_sub hg) (H s.1 s.2.1 s.2.2 h.1 h.2.2.1)) (fun z => absurd z (by omega)))
    (fun n d s hd h hw => pk_le 3 (g + d) (fun z => absurd z (by omega)) (fun _ => ⟨pk_in (g + d) 24 (by omega), pk_in d 24 (by omega) (gc_sx g d),
      nm_r (e' := upd s.1 d (s.1 (g + d))) (by rw [gc_sx, nI_clamp (by omega), nI_clamp (by omega)]) ⟨pk_in (g + d) 24 (by omega), pk_in d 24 (by omega) (gc_sx g d), nm_e
        (gc_t66 g d (by omega) h.2.2.1 h.2.2.2 (fun c c1 c2 => hw (upd s.1 d (s.1 (g + d)), _, c) ⟨fun k hk => ?_, fun k hk => ?_, c1, c2⟩))⟩⟩))
  · by_cases e : k = d
    · show upd s.1 d (s.1 (g + d)) k = _
      rw [e, pk_us, h.2.1 _ (by omega)]
      congr 1
      omega
    · show upd s.1 d (s.1 (g + d)) k = _
      rw [pk_un e]
      exact h.1 k (by omega)
  · show upd s.1 d (s.1 (g + d)) k = _
    rw [pk_un (by omega)]
    exact h.2.1 k (by omega)
end
section
theorem gc_sortIn {Q : Int32 → Prop} {f1 f2 f3 f4 f5 f6 f7 : Int32} {a1 : Nat → Int64} {a2 a3 a4 a5 a6 a7 a8 a9 a10 a11 a12 a13 a14 : Nat → Int32} (i e : Nat) (hi : i < e) (he : e ≤ 24) (h : Q (a12 i)) : wpX_sort Q (f1, f2, f3, f4, f5, f6, f7, (nI e), a1, a2, a3, a4, a5, a6, a7, a8, a9, a10, a11, a12, a13, a14) (nI i) := by
  unfold wpX_sort
  refine br_f (nI_pos (by omega)) (br_f (nI_ge hi (by omega)) (br_f (by decide) ⟨vp_in_nI (by omega) (by omega), ?_⟩))
  rw [nI_clamp (by omega)]
  exact h
theorem gc_sortOut {Q : Int32 → Prop} {x : Int32} {f1 f2 f3 f4 f5 f6 f7 f8 : Int32} {a1 : Nat → Int64} {a2 a3 a4 a5 a6 a7 a8 a9 a10 a11 a12 a13 a14 : Nat → Int32} (hx : x < 0) (h : Q 0) : wpX_sort Q (f1, f2, f3, f4, f5, f6, f7, f8, a1, a2, a3, a4, a5, a6, a7, a8, a9, a10, a11, a12, a13, a14) x := by
  unfold wpX_sort
  exact br_t hx (br_t rfl h)
theorem gc_fieldIn {Q : Int32 → Prop} {f1 f2 f3 f4 f5 f6 f7 : Int32} {a1 : Nat → Int64} {a2 a3 a4 a5 a6 a7 a8 a9 a10 a11 a12 a13 a14 : Nat → Int32} (i e f : Nat) (hi : i < e) (he : e ≤ 24) (hf : f ≤ 5) (h : Q (a14 (6 * i + f))) : wpX_field Q (f1, f2, f3, f4, f5, f6, f7, (nI e), a1, a2, a3, a4, a5, a6, a7, a8, a9, a10, a11, a12, a13, a14) (nI i) (nI f) := by
  unfold wpX_field
  refine br_f (nI_pos (by omega)) (br_f (nI_ge hi (by omega)) (br_f (by decide) (br_f (nI_pos (by omega)) (br_f (fun y => absurd (show nI 5 < nI f from y) (by rw [nI_ltI (by omega) (by omega)]; omega)) ⟨pk_in (6 * i + f) 144 (by omega) (gc_i1 i f), ?_⟩))))
  rw [gc_i1, nI_clamp (by omega)]
  exact h
theorem gc_fieldOut {Q : Int32 → Prop} {x f : Int32} {f1 f2 f3 f4 f5 f6 f7 f8 : Int32} {a1 : Nat → Int64} {a2 a3 a4 a5 a6 a7 a8 a9 a10 a11 a12 a13 a14 : Nat → Int32} (hx : x < 0) (h : Q 0) : wpX_field Q (f1, f2, f3, f4, f5, f6, f7, f8, a1, a2, a3, a4, a5, a6, a7, a8, a9, a10, a11, a12, a13, a14) x f := by
  unfold wpX_field
  exact br_t hx (br_t rfl h)
theorem gc_now {post : Int32 → St2 → Prop} {f1 f2 f3 f6 f7 f8 : Int32} {a1 : Nat → Int64} {a2 a3 a4 a5 a6 a7 a8 a9 a10 a11 a12 a13 a14 : Nat → Int32} {j : Nat} {sm : Int32} {p0 p1 p2 : Int64} {kd : Int32} (hj : j < 8) (hk : ¬ 40 < kd)
    (G : gc_G (lN (j * 4294967296)) (lN ((j + 1) * 4294967296)) 2 sm p0 p1 p2 kd f1 a1 a2 a3 a4 a5 a6 a7 a8)
    (h : ∀ b, post kd (f1, f2, f3, 1, 40, f6, 1, f8, a1, a2, a3, a4, a5, a6, a7, a8, a9, a10, b, a12, a13, a14)) : wpX_now post (f1, f2, f3, 1, 40, f6, f7, f8, a1, a2, a3, a4, a5, a6, a7, a8, a9, a10, a11, a12, a13, a14) (nI j) 4 := by
  unfold wpX_now
  refine br_f (nI_pos (by omega)) (br_f (fun y => absurd (show nI 7 < nI j from y) (by rw [nI_ltI (by omega) (by omega)]; omega)) (br_f (by decide) (br_t (by decide)
    (gc_describe hj (by decide) (by decide) hk G (fun b _ _ e4 _ => And.intro (pk_in 4 6 (by decide)) ?_)))))
  have t := h b
  rw [← e4] at t
  exact t
theorem gc_214 {post : Int32 → St0 → Prop} {mc ms kc ks : Nat} {x1 x2 : Int32} {f1 f2 f3 f6 f7 f8 : Int32} {a1 : Nat → Int64} {a2 a3 a4 a5 a6 a7 a8 a9 a10 a11 a12 a13 a14 : Nat → Int32} {j : Nat} {sm : Int32} {p0 p1 p2 : Int64} {kd : Int32} (hj : j < 8) (hk : ¬ 40 < kd)
    (G : gc_G (lN (j * 4294967296)) (lN ((j + 1) * 4294967296)) 2 sm p0 p1 p2 kd f1 a1 a2 a3 a4 a5 a6 a7 a8) (d1 : x1 = x2 → kd = 1) (d2 : ¬ x1 = x2 → kd = 2)
    (hp : post 1 ()) (z : Int32) : wL_lawOf_214 post mc ms x1 x2 (nI j) z z kc ks f1 f2 f3 1 40 f6 f7 f8 a1 a2 a3 a4 a5 a6 a7 a8 a9 a10 a11 a12 a13 a14 := by
  unfold wL_lawOf_214
  refine br_t rfl (gc_now hj hk G (fun b => br_c (fun e => ?_) (fun e => ?_)))
  · unfold wL_lawOf_235
    exact br_t (d1 e) hp
  · unfold wL_lawOf_235
    exact br_t (d2 e) hp
theorem gc_178in {post : Int32 → St0 → Prop} {mc ms kc ks : Nat} {x1 x2 x5 : Int32} {f1 f2 f3 f4 f5 f6 f7 : Int32} {a1 : Nat → Int64} {a2 a3 a4 a5 a6 a7 a8 a9 a10 a11 a12 a13 a14 : Nat → Int32} (i e : Nat) (hi : i < e) (he : e ≤ 24) (hm1 : x2 ≤ x1 → a14 (6 * i + 5) = x2) (hm2 : ¬ x2 ≤ x1 → a14 (6 * i + 5) = x1)
    (hn : ∀ z, wL_lawOf_214 post mc ms x1 x2 x5 z z kc ks f1 f2 f3 f4 f5 f6 f7 (nI e) a1 a2 a3 a4 a5 a6 a7 a8 a9 a10 a11 a12 a13 a14) (z : Int32) : wL_lawOf_178 post mc ms x1 x2 x5 (nI i) 1 z z kc ks f1 f2 f3 f4 f5 f6 f7 (nI e) a1 a2 a3 a4 a5 a6 a7 a8 a9 a10 a11 a12 a13 a14 := by
  unfold wL_lawOf_178
  refine br_t rfl (br_c (fun o => ?_) (fun o => ?_))
  · unfold wL_lawOf_193
    refine gc_fieldIn i e 5 hi he (by decide) (br_f (by decide) ?_)
    rw [hm1 o]
    exact hn x2
  · unfold wL_lawOf_193
    refine gc_fieldIn i e 5 hi he (by decide) (br_f (by decide) ?_)
    rw [hm2 o]
    exact hn x1
theorem gc_178out {post : Int32 → St0 → Prop} {mc ms kc ks : Nat} {x1 x2 x5 x7 : Int32} {f1 f2 f3 f4 f5 f6 f7 f8 : Int32} {a1 : Nat → Int64} {a2 a3 a4 a5 a6 a7 a8 a9 a10 a11 a12 a13 a14 : Nat → Int32} (hx : x7 < 0)
    (hn : ∀ z, wL_lawOf_214 post mc ms x1 x2 x5 z z kc ks f1 f2 f3 f4 f5 f6 f7 f8 a1 a2 a3 a4 a5 a6 a7 a8 a9 a10 a11 a12 a13 a14) (z : Int32) : wL_lawOf_178 post mc ms x1 x2 x5 x7 0 z z kc ks f1 f2 f3 f4 f5 f6 f7 f8 a1 a2 a3 a4 a5 a6 a7 a8 a9 a10 a11 a12 a13 a14 := by
  unfold wL_lawOf_178
  refine br_t rfl (br_c (fun o => ?_) (fun o => ?_))
  · unfold wL_lawOf_193
    exact gc_fieldOut hx (br_t rfl (hn 0))
  · unfold wL_lawOf_193
    exact gc_fieldOut hx (br_t rfl (hn 0))
/-- the last entry is still there -/
theorem gc_111in {post : Int32 → St0 → Prop} {mc ms kc ks : Nat} {x1 x2 x5 : Int32} {f1 f2 f3 f4 f5 f6 f7 : Int32} {a1 : Nat → Int64} {a2 a3 a4 a5 a6 a7 a8 a9 a10 a11 a12 a13 a14 : Nat → Int32} (g i : Nat) (hg : g + i = 2) (q2 : a12 i = 2) (q1 : ∀ k, i = k + 1 → a12 k = 1) (q3 : a14 (6 * i + 1) = x1 + x2)
    (hm1 : x2 ≤ x1 → a14 (6 * i + 5) = x2) (hm2 : ¬ x2 ≤ x1 → a14 (6 * i + 5) = x1)
    (hn : ∀ z, wL_lawOf_214 post mc ms x1 x2 x5 z z kc ks f1 f2 f3 f4 f5 f6 f7 (nI (i + 1)) a1 a2 a3 a4 a5 a6 a7 a8 a9 a10 a11 a12 a13 a14) : wL_lawOf_111 post mc ms x1 x2 x5 (nI g) (nI i) 1 kc ks f1 f2 f3 f4 f5 f6 f7 (nI (i + 1)) a1 a2 a3 a4 a5 a6 a7 a8 a9 a10 a11 a12 a13 a14 := by
  unfold wL_lawOf_111
  refine gc_sortIn i (i + 1) (by omega) (by omega) (br_f (by decide) ?_)
  rw [q2]
  unfold wL_lawOf_130
  refine br_t rfl (gc_fieldIn i (i + 1) 1 (by omega) (by omega) (by decide) (br_f (by decide) ?_))
  rw [q3]
  unfold wL_lawOf_153
  refine br_t rfl ?_
  rcases Nat.eq_zero_or_pos i with e | e
  · subst e
    refine gc_sortOut (by decide) (br_t (nI_le (a := 2) (by omega) (by omega)) (gc_178in 0 (0 + 1) (by omega) (by omega) hm1 hm2 hn 0))
  · obtain ⟨k, rfl⟩ : ∃ k, i = k + 1 := ⟨i - 1, by omega⟩
    rw [nI_pred]
    refine gc_sortIn k (k + 1 + 1) (by omega) (by omega) (br_f (nI_ge (b := 2) (by omega) (by omega)) ?_)
    rw [q1 k rfl]
    exact gc_178in (k + 1) (k + 1 + 1) (by omega) (by omega) hm1 hm2 hn 1
/-- all entries are gone -/
theorem gc_111out {post : Int32 → St0 → Prop} {mc ms kc ks : Nat} {x1 x2 x5 : Int32} {f1 f2 f3 f4 f5 f6 f7 f8 : Int32} {a1 : Nat → Int64} {a2 a3 a4 a5 a6 a7 a8 a9 a10 a11 a12 a13 a14 : Nat → Int32}
    (hn : ∀ z, wL_lawOf_214 post mc ms x1 x2 x5 z z kc ks f1 f2 f3 f4 f5 f6 f7 f8 a1 a2 a3 a4 a5 a6 a7 a8 a9 a10 a11 a12 a13 a14) : wL_lawOf_111 post mc ms x1 x2 x5 (nI 3) (2 - nI 3) 0 kc ks f1 f2 f3 f4 f5 f6 f7 f8 a1 a2 a3 a4 a5 a6 a7 a8 a9 a10 a11 a12 a13 a14 := by
  unfold wL_lawOf_111
  refine gc_sortOut (by decide) (br_t rfl ?_)
  unfold wL_lawOf_130
  refine br_t rfl (gc_fieldOut (by decide) (br_t rfl ?_))
  unfold wL_lawOf_153
  exact br_t rfl (gc_sortOut (by decide) (br_t (by decide) (gc_178out (by decide) hn 0)))
/-- from take on, g entries taken -/
theorem gc_68 {post : Int32 → St0 → Prop} {mc ms kc ks : Nat} {x1 x2 x3 : Int32} {f1 f2 f3 f6 f7 : Int32} {a1 : Nat → Int64} {a2 a3 a4 a5 a6 a7 a8 a9 a10 a11 a12 a13 a14 : Nat → Int32} {j : Nat} {p0 p1 p2 : Int64} {kd : Int32} (hj : j < 8) (hk : ¬ 40 < kd)
    (G : gc_G (lN (j * 4294967296)) (lN ((j + 1) * 4294967296)) 2 (x1 + x2) p0 p1 p2 kd f1 a1 a2 a3 a4 a5 a6 a7 a8) (d1 : x1 = x2 → kd = 1) (d2 : ¬ x1 = x2 → kd = 2)
    (d3 : x2 ≤ x1 → gc_val p2 = x2) (d4 : ¬ x2 ≤ x1 → gc_val p2 = x1) (c1 : a12 1 = 1) (c2 : a12 2 = 2) (c3 : a14 13 = x1 + x2) (c4 : a14 17 = gc_val p2) (hp : post 1 ())
    (g : Nat) (hg : g ≤ 3) (ht : ∀ Q, (∃ fu, wX_take_27 Q (nI g) f1 f2 f3 1 40 f6 f7 (nI 3) fu (nI g) a1 a2 a3 a4 a5 a6 a7 a8 a9 a10 a11 a12 a13 a14) → wpX_take Q (f1, f2, f3, 1, 40, f6, f7, (nI 3), a1, a2, a3, a4, a5, a6, a7, a8, a9, a10, a11, a12, a13, a14) x3) :
    wL_lawOf_68 post mc ms x1 x2 x3 (nI j) (nI g) kc ks f1 f2 f3 1 40 f6 f7 (nI 3) a1 a2 a3 a4 a5 a6 a7 a8 a9 a10 a11 a12 a13 a14 := by
  unfold wL_lawOf_68
  refine ht _ (gc_t27 g hg (fun b12 b13 b14 q12 q14 => ?_))
  have hn : ∀ z, wL_lawOf_214 post mc ms x1 x2 (nI j) z z kc ks f1 f2 f3 1 40 f6 f7 (nI (3 - g)) a1 a2 a3 a4 a5 a6 a7 a8 a9 a10 a11 b12 b13 b14 := gc_214 hj hk G d1 d2 hp
  have m1 : x2 ≤ x1 → a14 17 = x2 := fun o => c4.trans (d3 o)
  have m2 : ¬ x2 ≤ x1 → a14 17 = x1 := fun o => c4.trans (d4 o)
  refine br_t rfl (br_t (pk_sub (a := 3) hg).symm (nm_e ?_))
  have hg' : g = 0 ∨ g = 1 ∨ g = 2 ∨ g = 3 := by omega
  rcases hg' with rfl | rfl | rfl | rfl
  · refine br_f (by decide) (gc_111in 0 2 rfl ((q12 2 (by decide)).trans c2) (fun k e => ?_) ((q14 13 (by decide)).trans c3) (fun o => (q14 17 (by decide)).trans (m1 o)) (fun o => (q14 17 (by decide)).trans (m2 o)) hn)
    have ek : k = 1 := by omega
    rw [ek]
    exact (q12 1 (by decide)).trans c1
  · refine br_f (by decide) (gc_111in 1 1 rfl ((q12 1 (by decide)).trans c2) (fun k e => ?_) ((q14 7 (by decide)).trans c3) (fun o => (q14 11 (by decide)).trans (m1 o)) (fun o => (q14 11 (by decide)).trans (m2 o)) hn)
    have ek : k = 0 := by omega
    rw [ek]
    exact (q12 0 (by decide)).trans c1
  · exact br_f (by decide) (gc_111in 2 0 rfl ((q12 0 (by decide)).trans c2) (fun k e => absurd e (by omega)) ((q14 1 (by decide)).trans c3) (fun o => (q14 5 (by decide)).trans (m1 o)) (fun o => (q14 5 (by decide)).trans (m2 o)) hn)
  · exact br_t (by decide) (gc_111out hn)
theorem gc_law (x0 x1 x2 x3 : Int32) : wpL_lawOf (fun r _ => r = 1) 15 570 () x0 x1 x2 x3 := by
  obtain ⟨j, hj, ej⟩ := pk_andE x0 (m := 7) 3 (by decide)
  have hj : j < 8 := hj
  unfold wpL_lawOf
  refine ⟨by decide, by decide, 14, 548, by decide, by decide, gc_init (fun m hm => nm_r ej (gc_ins1 hj hm rfl rfl rfl rfl
    (fun g3 g6 g7 b1 b2 b3 b4 b5 b6 b7 b8 b9 b10 b11 b12 b13 b14 T => br_t rfl (gc_ins2 hj T ?_))))⟩
  intro h2 h3 h6 h7 e1 e2 e3 e4 e5 e6 e7 e8 e9 e10 e11 e12 e13 e14 p0 p1 p2 kd G d1 d2 hk d3 d4 c1 c2 c3 c4
  refine br_t rfl (br_t rfl (br_c (fun y => br_c (fun z => ?_) (fun z => ?_)) (fun y => ?_)))
  · obtain ⟨g, hg, rfl⟩ := nI_of2 (x := x3) (M := 3) (n := 3) rfl (fun q => absurd y (Int32.not_le.mpr q)) z
    exact gc_68 hj hk G d1 d2 d3 d4 c1 c2 c3 c4 rfl g hg (fun Q h => br_t y (br_t z h))
  · exact gc_68 hj hk G d1 d2 d3 d4 c1 c2 c3 c4 rfl 3 (by decide) (fun Q h => br_t y (br_f z h))
  · exact gc_68 hj hk G d1 d2 d3 d4 c1 c2 c3 c4 rfl 0 (by decide) (fun Q h => br_f y h)
end
section
theorem gc_cell {Q : Int32 → Prop} {L : Nat} {xs : Nat → Int32} (hL : L ≤ 4) (i : Nat) (hi : i < 4) (h : ∀ r, Q r) : wpL_cellAt Q L xs () (nI i) :=
  pk_le L i (fun _ => h 0) (fun z => ⟨pk_in i L z, h _⟩)
theorem i_vc (xs : Nat → Int32) (L : Nat) (hL : L ≤ 4) : wpL_law (fun r => r = 1) L xs := by
  unfold wpL_law
  exact gc_cell hL 0 (by decide) (fun r1 => gc_cell hL 1 (by decide) (fun r2 => gc_cell hL 2 (by decide) (fun r3 => gc_cell hL 3 (by decide) (fun r4 => ⟨15, 570, by decide, by decide, gc_law r1 r2 r3 r4⟩))))
end
