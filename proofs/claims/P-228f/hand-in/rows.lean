section
theorem pk_us {f : Nat → Int32} {k : Nat} {x : Int32} : upd f k x k = x := if_pos rfl
theorem pk_un {f : Nat → Int32} {k j : Nat} {x : Int32} (h : j ≠ k) : upd f k x j = f j := if_neg h
theorem pk_sub {a b : Nat} (h : b ≤ a) : nI a - nI b = nI (a - b) := by
  obtain ⟨c, rfl⟩ : ∃ c, a = c + b := ⟨a - b, by omega⟩
  rw [← nI_add, Int32.add_sub_cancel, Nat.add_sub_cancel]
theorem pk_le {x y : Int32} {A B : Prop} (a b : Nat) (f : a ≤ b → A) (g : b < a → B) (hx : x = nI a := by rfl) (hy : y = nI b := by rfl) (ha : a < 2 ^ 31 := by omega) (hb : b < 2 ^ 31 := by omega) : (x ≤ y → A) ∧ (¬ x ≤ y → B) := by
  subst hx hy
  rw [nI_leI ha hb]
  exact ⟨f, fun z => g (by omega)⟩
theorem pk_lt {x y : Int32} {A B : Prop} (a b : Nat) (f : a < b → A) (g : b ≤ a → B) (hx : x = nI a := by rfl) (hy : y = nI b := by rfl) (ha : a < 2 ^ 31 := by omega) (hb : b < 2 ^ 31 := by omega) : (x < y → A) ∧ (¬ x < y → B) := by
  subst hx hy
  rw [nI_ltI ha hb]
  exact ⟨f, fun z => g (by omega)⟩
theorem pk_eq {x y : Int32} {A B : Prop} (a b : Nat) (f : a = b → A) (g : a ≠ b → B) (hx : x = nI a := by rfl) (hy : y = nI b := by rfl) (ha : a < 2 ^ 31 := by omega) (hb : b < 2 ^ 31 := by omega) : (x = y → A) ∧ (¬ x = y → B) := by
  subst hx hy
  rw [nI_eq ha hb]
  exact ⟨f, g⟩
theorem pk_in {x : Int32} (n N : Nat) (h : n < N) (hx : x = nI n := by rfl) (hN : N < 2 ^ 31 := by omega) : vp_in x N := by
  subst hx
  exact vp_in_nI h hN
theorem pk_cl {x : Int32} (n : Nat) (hx : x = nI n := by rfl) (h : n < 2 ^ 31 := by omega) : x.toNatClampNeg = n := by
  subst hx
  exact nI_clamp h
theorem pk_tn {n : Nat} (h : n < 2 ^ 32) : (nI n).toBitVec.toNat = n := Nat.mod_eq_of_lt h
theorem pk_and (x : Int32) {m : Int32} (k : Nat) (hm : m.toBitVec.toNat = 2 ^ k - 1) : x &&& m = nI (x.toBitVec.toNat % 2 ^ k) := by
  apply Int32.toBitVec_inj.mp
  apply BitVec.eq_of_toNat_eq
  rw [Int32.toBitVec_and, BitVec.toNat_and, hm, Nat.and_two_pow_sub_one_eq_mod]
  show _ = (BitVec.ofNat 32 _).toNat
  rw [BitVec.toNat_ofNat]
  exact (Nat.mod_eq_of_lt (Nat.lt_of_le_of_lt (Nat.mod_le _ _) x.toBitVec.isLt)).symm
theorem pk_andN {n : Nat} (h : n < 2 ^ 32) {m : Int32} (k : Nat) (hm : m.toBitVec.toNat = 2 ^ k - 1) : nI n &&& m = nI (n % 2 ^ k) := by
  rw [pk_and _ k hm, pk_tn h]
theorem pk_lT {n : Nat} (h : n < 2 ^ 63) : (lN n).toInt = (n : Int) := lg_ofNat_toInt h
theorem pk_lLE {a b : Nat} (ha : a < 2 ^ 63) (hb : b < 2 ^ 63) : lN a ≤ lN b ↔ a ≤ b := by
  rw [Int64.le_iff_toInt_le, pk_lT ha, pk_lT hb]; omega
/-! the byte that fill stores: X shifts right by 56 - 8 j, Y left by 8 j and then right by 56 -/
theorem ds_c1 : ∀ j, j < 8 → (((56 - (8 * nI j)).toInt64.toUInt64 &&& Int64.toUInt64 63).toBitVec % 64).toNat = 56 - 8 * j := by decide +kernel
theorem ds_c2 : ∀ j, j < 8 → ((((nI j) * 8).toInt64 &&& 63).toBitVec.smod 64).toNat = 8 * j := by decide +kernel
theorem ds_c3 : (((56 : Int32).toInt64 &&& 63).toBitVec.smod 64).toNat = 56 := by decide +kernel
theorem ds_xb (x : Int64) {j i : Nat} (hj : j < 8) (hi : i < 8) : (x.toUInt64 >>> ((56 - (8 * nI j)).toInt64.toUInt64 &&& Int64.toUInt64 63)).toInt64.toBitVec.getLsbD i = x.toBitVec.getLsbD (56 - 8 * j + i) := by
  show (x.toUInt64 >>> ((56 - (8 * nI j)).toInt64.toUInt64 &&& Int64.toUInt64 63)).toBitVec.getLsbD i = x.toUInt64.toBitVec.getLsbD (56 - 8 * j + i)
  rw [UInt64.toBitVec_shiftRight]
  show (x.toUInt64.toBitVec >>> (((56 - (8 * nI j)).toInt64.toUInt64 &&& Int64.toUInt64 63).toBitVec % 64).toNat).getLsbD i = _
  rw [ds_c1 j hj, BitVec.getLsbD_ushiftRight]
theorem ds_yb (x : Int64) {j i : Nat} (hj : j < 8) (hi : i < 8) : ((x <<< ((nI j * 8).toInt64 &&& 63)) >>> ((56 : Int32).toInt64 &&& 63)).toBitVec.getLsbD i = x.toBitVec.getLsbD (56 - 8 * j + i) := by
  rw [Int64.toBitVec_shiftRight]
  show ((x <<< ((nI j * 8).toInt64 &&& 63)).toBitVec.sshiftRight (((56 : Int32).toInt64 &&& 63).toBitVec.smod 64).toNat).getLsbD i = _
  rw [ds_c3, BitVec.getLsbD_sshiftRight, Int64.toBitVec_shiftLeft]
  have e : x.toBitVec <<< (((nI j) * 8).toInt64 &&& 63).toBitVec.smod 64 = x.toBitVec <<< (8 * j) := by
    show x.toBitVec <<< ((((nI j) * 8).toInt64 &&& 63).toBitVec.smod 64).toNat = _
    rw [ds_c2 j hj]
  rw [e, if_pos (by omega), BitVec.getLsbD_shiftLeft]
  have h1 : 56 + i < 64 := by omega
  have h2 : ¬ 56 + i < 8 * j := by omega
  have h3 : ¬ 64 ≤ i := by omega
  have h4 : 56 + i - 8 * j = 56 - 8 * j + i := by omega
  simp only [h1, h2, h3, h4, decide_true, decide_false, Bool.not_false, Bool.true_and, Bool.and_true]
theorem ds_cut {x y : Int64} (h : ∀ i, i < 8 → x.toBitVec.getLsbD i = y.toBitVec.getLsbD i) : x.toInt32.toInt8 = y.toInt32.toInt8 := by
  apply Int8.toBitVec_inj.mp
  rw [Int32.toBitVec_toInt8, Int32.toBitVec_toInt8, Int64.toBitVec_toInt32, Int64.toBitVec_toInt32]
  apply BitVec.eq_of_getLsbD_eq
  intro i hi
  rw [BitVec.getLsbD_signExtend, BitVec.getLsbD_signExtend, if_pos (by omega), if_pos (by omega), BitVec.getLsbD_signExtend, BitVec.getLsbD_signExtend, if_pos (by omega), if_pos (by omega), h i hi]
theorem ds_and7 (i : Nat) (hi : i < 2 ^ 32) : nI i &&& 7 = nI (i % 8) := pk_andN hi 3 (by decide)
theorem ds_byte (x : Int64) (i : Nat) (hi : i < 2 ^ 32) : vp_nar .byte ((((x.toUInt64 >>> ((56 - (8 * (nI i &&& 7))).toInt64.toUInt64 &&& Int64.toUInt64 63)).toInt64).toInt32).toInt8.toInt32) = vp_nar .byte ((((x <<< (((nI i &&& 7) * 8).toInt64 &&& 63)) >>> ((56 : Int32).toInt64 &&& 63)).toInt32).toInt8.toInt32) := by
  rw [ds_and7 i hi]
  have hj : i % 8 < 8 := Nat.mod_lt _ (by decide)
  rw [ds_cut (fun k hk => (ds_xb x hj hk).trans (ds_yb x hj hk).symm)]
end
section
/-! ===== the name loop (X: readType's row 194, Y: name) in lockstep ===== -/
/-- one class name's entry, if there is room -/
def ds_put (f : Nat → Int32) (t : Nat) (x : Int32) : Nat → Int32 := if t < 16 then upd f t x else f
/-- what is stored for a name whose L stands at m and whose ; stands at z -/
def ds_vo (m : Nat) : Int32 := vp_nar .short (nI (m + 1)).toInt16.toInt32
def ds_vl (m z : Nat) : Int32 := vp_nar .char (((nI z - nI (m + 1)).toUInt32 % 65536).toInt32)
/-- the edge flag g at q, of a name that begins at s -/
def ds_Ed (b : Nat → Int32) (s q : Nat) (g : Int32) : Prop := (g = 1 ∧ (q = s ∨ b (q - 1) = 47)) ∨ (g = 0 ∧ q ≠ s ∧ b (q - 1) ≠ 47)
/-- at q the loop goes on, with the flag g' -/
def ds_St (b : Nat → Int32) (q : Nat) (g g' : Int32) : Prop := (b q = 47 ∧ g = 0 ∧ g' = 1) ∨ (b q ≠ 46 ∧ b q ≠ 91 ∧ b q ≠ 47 ∧ b q ≠ 59 ∧ 0 < b q ∧ g' = 0)
/-- at q the loop ends with the code c -/
def ds_En (b : Nat → Int32) (q : Nat) (g c : Int32) : Prop := (b q = 46 ∧ c = -4) ∨ (b q = 91 ∧ c = -4) ∨ (b q = 47 ∧ g = 1 ∧ c = -4) ∨ (b q = 59 ∧ g = 1 ∧ c = -4) ∨ (b q ≠ 46 ∧ b q ≠ 91 ∧ b q ≠ 47 ∧ b q ≠ 59 ∧ ¬ 0 < b q ∧ c = -8)
section
variable {b o l : Nat → Int32} {cap cn sl kd tc dp wd sz g g' c : Int32} {e s q n m t : Nat}
theorem ds_xs {post : Int32 → SX → Prop} (he : e ≤ 512) (hq : q < e) (hs : ds_St b q g g') (h : wX_readType_194 post (nI e) (nI s) cap cn sl kd tc dp wd b o l n (nI (q + 1)) g') : wX_readType_194 post (nI e) (nI s) cap cn sl kd tc dp wd b o l (n + 1) (nI q) g := by
  have hc : (nI q).toNatClampNeg = q := nI_clamp (by omega)
  have hi : vp_in (nI q) 512 := vp_in_nI (by omega) (by omega)
  have hl : ¬ nI e ≤ nI q := nI_ge hq (by omega)
  rcases hs with ⟨h1, rfl, rfl⟩ | ⟨h1, h2, h3, h4, h5, rfl⟩
  · exact br_f hl ⟨hi, nm_r (e' := 47) ((congrArg b hc).trans h1) (br_f (by decide) (br_f (by decide) (br_t rfl (br_t rfl (nm_r (nI_1 q) h)))))⟩
  · exact br_f hl ⟨hi, nm_r (e' := b q) (congrArg b hc) (br_f h1 (br_f h2 (br_f h3 (br_f h4 (br_t h5 (nm_r (nI_1 q) h))))))⟩
theorem ds_xe {post : Int32 → SX → Prop} (he : e ≤ 512) (hq : q < e) (hs : ds_En b q g c) (h : post c (cap, cn, sl, kd, tc, dp, wd, b, o, l)) : wX_readType_194 post (nI e) (nI s) cap cn sl kd tc dp wd b o l (n + 1) (nI q) g := by
  have hc : (nI q).toNatClampNeg = q := nI_clamp (by omega)
  have hi : vp_in (nI q) 512 := vp_in_nI (by omega) (by omega)
  have hl : ¬ nI e ≤ nI q := nI_ge hq (by omega)
  rcases hs with ⟨h1, rfl⟩ | ⟨h1, rfl⟩ | ⟨h1, rfl, rfl⟩ | ⟨h1, rfl, rfl⟩ | ⟨h1, h2, h3, h4, h5, rfl⟩
  · exact br_f hl ⟨hi, nm_r (e' := 46) ((congrArg b hc).trans h1) (br_t rfl h)⟩
  · exact br_f hl ⟨hi, nm_r (e' := 91) ((congrArg b hc).trans h1) (br_f (by decide) (br_t rfl h))⟩
  · exact br_f hl ⟨hi, nm_r (e' := 47) ((congrArg b hc).trans h1) (br_f (by decide) (br_f (by decide) (br_t rfl (br_f (by decide) h))))⟩
  · exact br_f hl ⟨hi, nm_r (e' := 59) ((congrArg b hc).trans h1) (br_f (by decide) (br_f (by decide) (br_f (by decide) (br_t rfl (br_f (by decide) h)))))⟩
  · exact br_f hl ⟨hi, nm_r (e' := b q) (congrArg b hc) (br_f h1 (br_f h2 (br_f h3 (br_f h4 (br_f h5 h)))))⟩
theorem ds_xo {post : Int32 → SX → Prop} (he : e ≤ 512) (hq : q < e) (ht : t ≤ 512) (h1 : b q = 59) (h : post (nI (q + 1)) (cap, cn, sl, kd, nI (t + 1), dp, wd, b, ds_put o t (ds_vo m), ds_put l t (ds_vl m q))) : wX_readType_194 post (nI e) (nI (m + 1)) cap cn sl kd (nI t) dp wd b o l (n + 1) (nI q) 0 := by
  have hc : (nI q).toNatClampNeg = q := nI_clamp (by omega)
  have hi : vp_in (nI q) 512 := vp_in_nI (by omega) (by omega)
  have hl : ¬ nI e ≤ nI q := nI_ge hq (by omega)
  rw [← nI_1 q] at h
  refine br_f hl ⟨hi, nm_r (e' := 59) ((congrArg b hc).trans h1) (br_f (by decide) (br_f (by decide) (br_f (by decide) (br_t rfl (br_t rfl ?_)))))⟩
  refine pk_le 16 t (fun h2 => ?_) (fun h2 => ?_)
  · unfold ds_put at h
    rw [if_neg (by omega), if_neg (by omega)] at h
    exact nm_r (nI_1 t) h
  · unfold ds_put at h
    rw [if_pos h2, if_pos h2] at h
    have ht' : (nI t).toNatClampNeg = t := nI_clamp (by omega)
    have hv : vp_in (nI t) 16 := vp_in_nI h2 (by omega)
    exact ⟨hv, nm_r (e' := upd o t (ds_vo m)) (by rw [ht']; rfl) ⟨hv, nm_r (e' := upd l t (ds_vl m q)) (by rw [ht']; rfl) (nm_r (nI_1 t) h)⟩⟩
theorem ds_y2 {post : Int32 → Prop} (he : e ≤ 512) (hq : q < e) (hs : s ≤ q) (hg : ds_Ed b s q g) (h : wY_name_30 post (wY_name_2 post (nI s) (nI e) sz cn sl kd b o l n) (nI s) (nI e) (nI q) g sz cn sl kd b o l) : wY_name_2 post (nI s) (nI e) sz cn sl kd b o l (n + 1) (nI q) := by
  have hl : ¬ nI e ≤ nI q := nI_ge hq (by omega)
  by_cases hqs : q = s
  · rcases hg with ⟨rfl, _⟩ | ⟨_, h2, _⟩
    · exact br_f hl (br_t (congrArg nI hqs) h)
    · exact absurd hqs h2
  · have h2 : ¬ nI q = nI s := fun z => hqs ((nI_eq (by omega) (by omega)).mp z)
    have h3 : nI q - 1 = nI (q - 1) := by
      obtain ⟨r, rfl⟩ : ∃ r, q = r + 1 := ⟨q - 1, by omega⟩
      exact nI_pred r
    have h4 : (nI q - 1).toNatClampNeg = q - 1 := by rw [h3]; exact nI_clamp (by omega)
    have h5 : vp_in (nI q - 1) 512 := by rw [h3]; exact vp_in_nI (by omega) (by omega)
    rcases hg with ⟨rfl, h6 | h6⟩ | ⟨rfl, _, h6⟩
    · exact absurd h6 hqs
    · exact br_f hl (br_f h2 ⟨h5, br_t ((congrArg b h4).trans h6) h⟩)
    · exact br_f hl (br_f h2 ⟨h5, br_f (fun z => h6 ((congrArg b h4).symm.trans z)) h⟩)
theorem ds_ys {post J : Int32 → Prop} {x1 x2 : Int32} (hq : q < 512) (hs : ds_St b q g g') (h : J (nI (q + 1))) : wY_name_30 post J x1 x2 (nI q) g sz cn sl kd b o l := by
  have hc : (nI q).toNatClampNeg = q := nI_clamp (by omega)
  have hi : vp_in (nI q) 512 := vp_in_nI (by omega) (by omega)
  rcases hs with ⟨h1, rfl, rfl⟩ | ⟨h1, h2, h3, h4, h5, rfl⟩
  · exact And.intro hi (nm_r (e' := 47) ((congrArg b hc).trans h1) (br_f (by decide) (br_t rfl (br_t rfl (nm_r (nI_1 q) h)))))
  · have h6 : 0 < b (nI q).toNatClampNeg := by rw [hc]; exact h5
    exact And.intro hi (nm_r (e' := b q) (congrArg b hc) (br_f h1 (br_f h3 (br_f h4 (br_f h2 ⟨hi, br_t h6 (nm_r (nI_1 q) h)⟩)))))
theorem ds_ye {post J : Int32 → Prop} {x1 x2 : Int32} (hq : q < 512) (hs : ds_En b q g c) (h : post c) : wY_name_30 post J x1 x2 (nI q) g sz cn sl kd b o l := by
  have hc : (nI q).toNatClampNeg = q := nI_clamp (by omega)
  have hi : vp_in (nI q) 512 := vp_in_nI (by omega) (by omega)
  rcases hs with ⟨h1, rfl⟩ | ⟨h1, rfl⟩ | ⟨h1, rfl, rfl⟩ | ⟨h1, rfl, rfl⟩ | ⟨h1, h2, h3, h4, h5, rfl⟩
  · exact And.intro hi (nm_r (e' := 46) ((congrArg b hc).trans h1) (br_t rfl h))
  · exact And.intro hi (nm_r (e' := 91) ((congrArg b hc).trans h1) (br_f (by decide) (br_f (by decide) (br_f (by decide) (br_t rfl h)))))
  · exact And.intro hi (nm_r (e' := 47) ((congrArg b hc).trans h1) (br_f (by decide) (br_t rfl (br_f (by decide) h))))
  · exact And.intro hi (nm_r (e' := 59) ((congrArg b hc).trans h1) (br_f (by decide) (br_f (by decide) (br_t rfl (br_f (by decide) h)))))
  · have h6 : ¬ 0 < b (nI q).toNatClampNeg := by rw [hc]; exact h5
    exact And.intro hi (nm_r (e' := b q) (congrArg b hc) (br_f h1 (br_f h3 (br_f h4 (br_f h2 ⟨hi, br_f h6 h⟩)))))
theorem ds_yo {post J : Int32 → Prop} {x1 x2 : Int32} (hq : q < 512) (h1 : b q = 59) (h : post (nI (q + 1))) : wY_name_30 post J x1 x2 (nI q) 0 sz cn sl kd b o l := by
  have hc : (nI q).toNatClampNeg = q := nI_clamp (by omega)
  have hi : vp_in (nI q) 512 := vp_in_nI (by omega) (by omega)
  rw [← nI_1 q] at h
  exact And.intro hi (nm_r (e' := 59) ((congrArg b hc).trans h1) (br_f (by decide) (br_f (by decide) (br_t rfl (br_t rfl h)))))
end
/-- the name loop at q ends with the code c on both sides -/
def ds_NF (b : Nat → Int32) (e s q : Nat) (g c : Int32) : Prop :=
  (∀ (post : Int32 → SX → Prop) (cap cn sl kd tc dp wd : Int32) (o l : Nat → Int32) (n : Nat), e - q < n → post c (cap, cn, sl, kd, tc, dp, wd, b, o, l) → wX_readType_194 post (nI e) (nI s) cap cn sl kd tc dp wd b o l n (nI q) g) ∧
  (∀ (post : Int32 → Prop) (sz cn sl kd : Int32) (o l : Nat → Int32) (n : Nat), e - q < n → post c → wY_name_2 post (nI s) (nI e) sz cn sl kd b o l n (nI q))
/-- the name loop at q ends well at the ; at z, on both sides -/
def ds_NS (b : Nat → Int32) (e m q : Nat) (g : Int32) (z : Nat) : Prop :=
  (∀ (post : Int32 → SX → Prop) (cap cn sl kd : Int32) (t : Nat) (dp wd : Int32) (o l : Nat → Int32) (n : Nat), t ≤ 512 → e - q < n → post (nI (z + 1)) (cap, cn, sl, kd, nI (t + 1), dp, wd, b, ds_put o t (ds_vo m), ds_put l t (ds_vl m z)) → wX_readType_194 post (nI e) (nI (m + 1)) cap cn sl kd (nI t) dp wd b o l n (nI q) g) ∧
  (∀ (post : Int32 → Prop) (sz cn sl kd : Int32) (o l : Nat → Int32) (n : Nat), e - q < n → post (nI (z + 1)) → wY_name_2 post (nI (m + 1)) (nI e) sz cn sl kd b o l n (nI q))
/-- what a name read from q on comes to -/
def ds_NO (b : Nat → Int32) (e m q : Nat) (g : Int32) : Prop :=
  (∃ c : Int32, ¬ 0 ≤ c ∧ ds_NF b e (m + 1) q g c) ∨ (∃ z, q ≤ z ∧ z < e ∧ b z = 59 ∧ (∀ i, q ≤ i → i < z → b i ≠ 59 ∧ b i ≠ 91) ∧ ds_NS b e m q g z)
theorem ds_s1 {k n : Nat} (h : k < n) : ∃ j, n = j + 1 := ⟨n - 1, by omega⟩
theorem ds_go {b : Nat → Int32} {e m q : Nat} {g g' : Int32} (he : e ≤ 512) (hq : q < e) (hm : m + 1 ≤ q) (hg : ds_Ed b (m + 1) q g) (hs : ds_St b q g g') (h : ds_NO b e m (q + 1) g') : ds_NO b e m q g := by
  rcases h with ⟨c, hc, hX, hY⟩ | ⟨z, h1, h2, h3, h4, hX, hY⟩
  · refine Or.inl ⟨c, hc, ?_, ?_⟩
    · intro post cap cn sl kd tc dp wd o l n hn hp
      obtain ⟨j, rfl⟩ := ds_s1 hn
      exact ds_xs he hq hs (hX post cap cn sl kd tc dp wd o l j (by omega) hp)
    · intro post sz cn sl kd o l n hn hp
      obtain ⟨j, rfl⟩ := ds_s1 hn
      exact ds_y2 he hq hm hg (ds_ys (by omega) hs (hY post sz cn sl kd o l j (by omega) hp))
  · refine Or.inr ⟨z, by omega, h2, h3, ?_, ?_, ?_⟩
    · intro i hi hz
      by_cases hiq : i = q
      · subst hiq
        rcases hs with ⟨h5, _, _⟩ | ⟨_, h5, _, h6, _, _⟩
        · rw [h5]; exact ⟨by decide, by decide⟩
        · exact ⟨h6, h5⟩
      · exact h4 i (by omega) hz
    · intro post cap cn sl kd t dp wd o l n ht hn hp
      obtain ⟨j, rfl⟩ := ds_s1 hn
      exact ds_xs he hq hs (hX post cap cn sl kd t dp wd o l j ht (by omega) hp)
    · intro post sz cn sl kd o l n hn hp
      obtain ⟨j, rfl⟩ := ds_s1 hn
      exact ds_y2 he hq hm hg (ds_ys (by omega) hs (hY post sz cn sl kd o l j (by omega) hp))
theorem ds_ne {b : Nat → Int32} {e m q : Nat} {g c : Int32} (he : e ≤ 512) (hq : q < e) (hm : m + 1 ≤ q) (hg : ds_Ed b (m + 1) q g) (hc : ¬ 0 ≤ c) (hs : ds_En b q g c) : ds_NO b e m q g := by
  refine Or.inl ⟨c, hc, ?_, ?_⟩
  · intro post cap cn sl kd tc dp wd o l n hn hp
    obtain ⟨j, rfl⟩ := ds_s1 hn
    exact ds_xe he hq hs hp
  · intro post sz cn sl kd o l n hn hp
    obtain ⟨j, rfl⟩ := ds_s1 hn
    exact ds_y2 he hq hm hg (ds_ye (by omega) hs hp)
theorem ds_name {b : Nat → Int32} {e m : Nat} (he : e ≤ 512) : ∀ (k q : Nat) (g : Int32), q + k = e → m + 1 ≤ q → ds_Ed b (m + 1) q g → ds_NO b e m q g := by
  intro k
  induction k with
  | zero =>
    intro q g hk hm hg
    have hl : nI e ≤ nI q := nI_le (by omega) (by omega)
    refine Or.inl ⟨-2, by decide, ?_, ?_⟩
    · intro post cap cn sl kd tc dp wd o l n hn hp
      obtain ⟨j, rfl⟩ := ds_s1 hn
      exact br_t hl hp
    · intro post sz cn sl kd o l n hn hp
      obtain ⟨j, rfl⟩ := ds_s1 hn
      exact br_t hl hp
  | succ k ih =>
    intro q g hk hm hg
    have hq : q < e := by omega
    have n4 : ¬ (0 : Int32) ≤ -4 := by decide
    have n8 : ¬ (0 : Int32) ≤ -8 := by decide
    have hg' : g = 1 ∨ g = 0 := by
      rcases hg with h | h
      · exact Or.inl h.1
      · exact Or.inr h.1
    by_cases h46 : b q = 46
    · exact ds_ne he hq hm hg n4 (Or.inl ⟨h46, rfl⟩)
    by_cases h91 : b q = 91
    · exact ds_ne he hq hm hg n4 (Or.inr (Or.inl ⟨h91, rfl⟩))
    by_cases h47 : b q = 47
    · rcases hg' with h | h
      · exact ds_ne he hq hm hg n4 (Or.inr (Or.inr (Or.inl ⟨h47, h, rfl⟩)))
      · exact ds_go he hq hm hg (Or.inl ⟨h47, h, rfl⟩) (ih (q + 1) 1 (by omega) (by omega) (Or.inl ⟨rfl, Or.inr h47⟩))
    by_cases h59 : b q = 59
    · rcases hg' with h | h
      · exact ds_ne he hq hm hg n4 (Or.inr (Or.inr (Or.inr (Or.inl ⟨h59, h, rfl⟩))))
      · subst h
        refine Or.inr ⟨q, Nat.le_refl q, hq, h59, fun i h1 h2 => absurd h1 (by omega), ?_, ?_⟩
        · intro post cap cn sl kd t dp wd o l n ht hn hp
          obtain ⟨j, rfl⟩ := ds_s1 hn
          exact ds_xo he hq ht h59 hp
        · intro post sz cn sl kd o l n hn hp
          obtain ⟨j, rfl⟩ := ds_s1 hn
          exact ds_y2 he hq hm hg (ds_yo (by omega) h59 hp)
    by_cases h0 : 0 < b q
    · exact ds_go he hq hm hg (Or.inr ⟨h46, h91, h47, h59, h0, rfl⟩) (ih (q + 1) 0 (by omega) (by omega) (Or.inr ⟨rfl, by omega, h47⟩))
    · exact ds_ne he hq hm hg n8 (Or.inr (Or.inr (Or.inr (Or.inr ⟨h46, h91, h47, h59, h0, rfl⟩))))
end
section
/-! ===== one type (X: readType, Y: type), in lockstep; printed by gen/type.py ===== -/
def ds_Pr (x : Int32) : Prop := x = 66 ∨ x = 67 ∨ x = 68 ∨ x = 70 ∨ x = 73 ∨ x = 74 ∨ x = 83 ∨ x = 90
def ds_Ot (x : Int32) : Prop := x ≠ 66 ∧ x ≠ 67 ∧ x ≠ 68 ∧ x ≠ 70 ∧ x ≠ 73 ∧ x ≠ 74 ∧ x ≠ 83 ∧ x ≠ 90 ∧ x ≠ 86 ∧ x ≠ 76
/-- X's tmpDeep, tmpWide, tmpCount, clsOff and clsLen behind a type that begins at p, has its base char at m and ends at z -/
def ds_nd (p m : Nat) (dp : Int32) : Int32 := if 255 < m - p then 1 else dp
def ds_nw (b : Nat → Int32) (p m : Nat) : Int32 := if m = p ∧ (b m = 74 ∨ b m = 68) then 1 else 0
def ds_nt (b : Nat → Int32) (m t : Nat) : Nat := if b m = 76 then t + 1 else t
def ds_no (b : Nat → Int32) (m t : Nat) (o : Nat → Int32) : Nat → Int32 := if b m = 76 then ds_put o t (ds_vo m) else o
def ds_nl (b : Nat → Int32) (m z t : Nat) (l : Nat → Int32) : Nat → Int32 := if b m = 76 then ds_put l t (ds_vl m z) else l
/-- a type that begins at p, has its base char at m and its last char at z -/
def ds_Ty (b : Nat → Int32) (e p m z : Nat) : Prop := p ≤ m ∧ m ≤ z ∧ z < e ∧ (∀ i, p ≤ i → i < m → b i = 91) ∧ b m ≠ 91 ∧ (b m ≠ 76 → z = m) ∧ (b m = 76 → m < z ∧ b z = 59 ∧ ∀ i, m < i → i < z → b i ≠ 59 ∧ b i ≠ 91)
section
variable {b o l : Nat → Int32} {cap cn sl kd tc dp wd sz ret x1 x3 x4 x5 : Int32} {e p q n m t : Nat}
theorem ds_x8s {post : Int32 → SX → Prop} (he : e ≤ 512) (hp : p < e) (hb : b p = 91) (h : wX_readType_8 post (nI e) x3 x4 cap cn sl kd tc dp wd b o l n (nI (p + 1))) : wX_readType_8 post (nI e) x3 x4 cap cn sl kd tc dp wd b o l (n + 1) (nI p) := by
  have hc : (nI p).toNatClampNeg = p := nI_clamp (by omega)
  have hi : vp_in (nI p) 512 := vp_in_nI (by omega) (by omega)
  exact br_f (nI_ge hp (by omega)) ⟨hi, br_t ((congrArg b hc).trans hb) (nm_r (nI_1 p) h)⟩
theorem ds_x8e {post : Int32 → SX → Prop} (he : e ≤ 512) (hp : p ≤ e) (hb : p = e ∨ b p ≠ 91) (h : wX_readType_30 post (nI p) (nI e) x3 x4 cap cn sl kd tc dp wd b o l) : wX_readType_8 post (nI e) x3 x4 cap cn sl kd tc dp wd b o l (n + 1) (nI p) := by
  by_cases hq : p = e
  · exact br_t (nI_le (by omega) (by omega)) h
  · have hc : (nI p).toNatClampNeg = p := nI_clamp (by omega)
    have hi : vp_in (nI p) 512 := vp_in_nI (by omega) (by omega)
    have hb' : b p ≠ 91 := hb.resolve_left hq
    exact br_f (nI_ge (by omega) (by omega)) ⟨hi, br_f (fun z => hb' ((congrArg b hc).symm.trans z)) h⟩
theorem ds_y3s {post : Int32 → Prop} (he : e ≤ 512) (hp : p < e) (hb : b p = 91) (h : wY_type_3 post x1 (nI e) x3 sz cn sl kd b o l n (nI (p + 1))) : wY_type_3 post x1 (nI e) x3 sz cn sl kd b o l (n + 1) (nI p) := by
  have hc : (nI p).toNatClampNeg = p := nI_clamp (by omega)
  have hi : vp_in (nI p) 512 := vp_in_nI (by omega) (by omega)
  exact br_f (nI_ge hp (by omega)) ⟨hi, br_t ((congrArg b hc).trans hb) (nm_r (nI_1 p) h)⟩
theorem ds_y3e {post : Int32 → Prop} (he : e ≤ 512) (hp : p ≤ e) (hb : p = e ∨ b p ≠ 91) (h : wY_type_27 post x1 (nI e) x3 (nI p) sz cn sl kd b o l) : wY_type_3 post x1 (nI e) x3 sz cn sl kd b o l (n + 1) (nI p) := by
  by_cases hq : p = e
  · exact br_t (nI_le (by omega) (by omega)) h
  · have hc : (nI p).toNatClampNeg = p := nI_clamp (by omega)
    have hi : vp_in (nI p) 512 := vp_in_nI (by omega) (by omega)
    have hb' : b p ≠ 91 := hb.resolve_left hq
    exact br_f (nI_ge (by omega) (by omega)) ⟨hi, br_f (fun z => hb' ((congrArg b hc).symm.trans z)) h⟩
theorem ds_x30 {post : Int32 → SX → Prop} (he : e ≤ 512) (hp : p ≤ m) (hm : m < e) (h : wX_readType_57 post (nI m) (nI e) ret (nI (m - p)) cap cn sl kd tc (ds_nd p m dp) wd b o l) : wX_readType_30 post (nI m) (nI e) ret (nI p) cap cn sl kd tc dp wd b o l := by
  unfold ds_nd at h
  refine nm_r (pk_sub hp) (br_t (nI_lt hm (by omega)) (pk_le (m - p) 255 (fun h1 => ?_) (fun h1 => ?_)))
  · rw [if_neg (by omega)] at h
    exact h
  · rw [if_pos h1] at h
    exact h
theorem ds_x30e {post : Int32 → SX → Prop} (he : e ≤ 512) (h : post (-2) (cap, cn, sl, kd, tc, dp, wd, b, o, l)) : wX_readType_30 post (nI e) (nI e) ret x4 cap cn sl kd tc dp wd b o l :=
  nm_e (br_f (nI_nlt (Nat.le_refl e) (by omega)) h)
theorem ds_x121 {post : Int32 → SX → Prop} (hp : p ≤ m) (hm : m < 512) (h : post (nI (m + 1)) (cap, cn, sl, kd, tc, dp, ds_nw b p m, b, o, l)) : wX_readType_121 post (nI m) (nI (m - p)) (b m) cap cn sl kd tc dp 0 b o l := by
  rw [← nI_1 m] at h
  unfold ds_nw at h
  refine pk_eq (m - p) 0 (fun h1 => ?_) (fun h1 => ?_)
  · by_cases h2 : b m = 74
    · rw [if_pos ⟨by omega, Or.inl h2⟩] at h
      exact br_t h2 h
    · by_cases h3 : b m = 68
      · rw [if_pos ⟨by omega, Or.inr h3⟩] at h
        exact br_f h2 (br_t h3 h)
      · rw [if_neg (fun z => z.2.elim h2 h3)] at h
        exact br_f h2 (br_f h3 h)
  · rw [if_neg (fun z => h1 (by omega))] at h
    exact h
theorem ds_x57p {post : Int32 → SX → Prop} (hm : m < 512) (hb : ds_Pr (b m)) (h : wX_readType_121 post (nI m) x5 (b m) cap cn sl kd tc dp wd b o l) : wX_readType_57 post (nI m) (nI e) ret x5 cap cn sl kd tc dp wd b o l := by
  have hc : (nI m).toNatClampNeg = m := nI_clamp (by omega)
  have hi : vp_in (nI m) 512 := vp_in_nI (by omega) (by omega)
  rcases hb with h1 | h1 | h1 | h1 | h1 | h1 | h1 | h1
  · rw [h1] at h
    exact And.intro hi (nm_r (e' := 66) ((congrArg b hc).trans h1) (br_t rfl h))
  · rw [h1] at h
    exact And.intro hi (nm_r (e' := 67) ((congrArg b hc).trans h1) (br_f (by decide) (br_t rfl h)))
  · rw [h1] at h
    exact And.intro hi (nm_r (e' := 68) ((congrArg b hc).trans h1) (br_f (by decide) (br_f (by decide) (br_t rfl h))))
  · rw [h1] at h
    exact And.intro hi (nm_r (e' := 70) ((congrArg b hc).trans h1) (br_f (by decide) (br_f (by decide) (br_f (by decide) (br_t rfl h)))))
  · rw [h1] at h
    exact And.intro hi (nm_r (e' := 73) ((congrArg b hc).trans h1) (br_f (by decide) (br_f (by decide) (br_f (by decide) (br_f (by decide) (br_t rfl h))))))
  · rw [h1] at h
    exact And.intro hi (nm_r (e' := 74) ((congrArg b hc).trans h1) (br_f (by decide) (br_f (by decide) (br_f (by decide) (br_f (by decide) (br_f (by decide) (br_t rfl h)))))))
  · rw [h1] at h
    exact And.intro hi (nm_r (e' := 83) ((congrArg b hc).trans h1) (br_f (by decide) (br_f (by decide) (br_f (by decide) (br_f (by decide) (br_f (by decide) (br_f (by decide) (br_t rfl h))))))))
  · rw [h1] at h
    exact And.intro hi (nm_r (e' := 90) ((congrArg b hc).trans h1) (br_f (by decide) (br_f (by decide) (br_f (by decide) (br_f (by decide) (br_f (by decide) (br_f (by decide) (br_f (by decide) (br_t rfl h)))))))))
theorem ds_x57v {post : Int32 → SX → Prop} (hm : m < 512) (hb : b m = 86) (h : (ret = 0 → post (-3) (cap, cn, sl, kd, tc, dp, wd, b, o, l)) ∧ (¬ ret = 0 → ((x5 = 0 → post (nI m + 1) (cap, cn, sl, kd, tc, dp, wd, b, o, l)) ∧ (¬ x5 = 0 → post (-3) (cap, cn, sl, kd, tc, dp, wd, b, o, l))))) : wX_readType_57 post (nI m) (nI e) ret x5 cap cn sl kd tc dp wd b o l := by
  have hc : (nI m).toNatClampNeg = m := nI_clamp (by omega)
  have hi : vp_in (nI m) 512 := vp_in_nI (by omega) (by omega)
  exact And.intro hi (nm_r (e' := 86) ((congrArg b hc).trans hb) (br_f (by decide) (br_f (by decide) (br_f (by decide) (br_f (by decide) (br_f (by decide) (br_f (by decide) (br_f (by decide) (br_f (by decide) (br_t rfl h))))))))))
theorem ds_x57l {post : Int32 → SX → Prop} (hm : m < 512) (hb : b m = 76) (h : ∃ k : Nat, wX_readType_194 post (nI e) (nI (m + 1)) cap cn sl kd tc dp wd b o l k (nI (m + 1)) 1) : wX_readType_57 post (nI m) (nI e) ret x5 cap cn sl kd tc dp wd b o l := by
  have hc : (nI m).toNatClampNeg = m := nI_clamp (by omega)
  have hi : vp_in (nI m) 512 := vp_in_nI (by omega) (by omega)
  exact And.intro hi (nm_r (e' := 76) ((congrArg b hc).trans hb) (br_f (by decide) (br_f (by decide) (br_f (by decide) (br_f (by decide) (br_f (by decide) (br_f (by decide) (br_f (by decide) (br_f (by decide) (br_f (by decide) (br_t rfl (nm_r (nI_1 m) h))))))))))))
theorem ds_x57o {post : Int32 → SX → Prop} (hm : m < 512) (hb : ds_Ot (b m)) (h : post (-3) (cap, cn, sl, kd, tc, dp, wd, b, o, l)) : wX_readType_57 post (nI m) (nI e) ret x5 cap cn sl kd tc dp wd b o l := by
  have hc : (nI m).toNatClampNeg = m := nI_clamp (by omega)
  have hi : vp_in (nI m) 512 := vp_in_nI (by omega) (by omega)
  obtain ⟨h66, h67, h68, h70, h73, h74, h83, h90, h86, h76⟩ := hb
  exact And.intro hi (nm_r (e' := b m) (congrArg b hc) (br_f h66 (br_f h67 (br_f h68 (br_f h70 (br_f h73 (br_f h74 (br_f h83 (br_f h90 (br_f h86 (br_f h76 h)))))))))))
theorem ds_y27e {post : Int32 → Prop} (he : e ≤ 512) (h : post (-2)) : wY_type_27 post x1 (nI e) x3 (nI e) sz cn sl kd b o l :=
  br_f (nI_nlt (Nat.le_refl e) (by omega)) h
theorem ds_y27p {post : Int32 → Prop} (he : e ≤ 512) (hm : m < e) (hb : ds_Pr (b m)) (h : post (nI m + 1)) : wY_type_27 post x1 (nI e) x3 (nI m) sz cn sl kd b o l := by
  have hc : (nI m).toNatClampNeg = m := nI_clamp (by omega)
  have hi : vp_in (nI m) 512 := vp_in_nI (by omega) (by omega)
  have hl : nI m < nI e := nI_lt hm (by omega)
  rcases hb with h1 | h1 | h1 | h1 | h1 | h1 | h1 | h1
  · exact br_t hl ⟨hi, nm_r (e' := 66) ((congrArg b hc).trans h1) (br_f (by decide) (br_f (by decide) (br_t rfl h)))⟩
  · exact br_t hl ⟨hi, nm_r (e' := 67) ((congrArg b hc).trans h1) (br_f (by decide) (br_f (by decide) (br_f (by decide) (br_t rfl h))))⟩
  · exact br_t hl ⟨hi, nm_r (e' := 68) ((congrArg b hc).trans h1) (br_f (by decide) (br_f (by decide) (br_f (by decide) (br_f (by decide) (br_t rfl h)))))⟩
  · exact br_t hl ⟨hi, nm_r (e' := 70) ((congrArg b hc).trans h1) (br_f (by decide) (br_f (by decide) (br_f (by decide) (br_f (by decide) (br_f (by decide) (br_f (by decide) (br_t rfl h)))))))⟩
  · exact br_t hl ⟨hi, nm_r (e' := 73) ((congrArg b hc).trans h1) (br_f (by decide) (br_f (by decide) (br_f (by decide) (br_f (by decide) (br_f (by decide) (br_f (by decide) (br_f (by decide) (br_f (by decide) (br_f (by decide) (br_t rfl h))))))))))⟩
  · exact br_t hl ⟨hi, nm_r (e' := 74) ((congrArg b hc).trans h1) (br_f (by decide) (br_f (by decide) (br_f (by decide) (br_f (by decide) (br_f (by decide) (br_f (by decide) (br_f (by decide) (br_f (by decide) (br_f (by decide) (br_f (by decide) (br_t rfl h)))))))))))⟩
  · exact br_t hl ⟨hi, nm_r (e' := 83) ((congrArg b hc).trans h1) (br_f (by decide) (br_f (by decide) (br_f (by decide) (br_f (by decide) (br_f (by decide) (br_f (by decide) (br_f (by decide) (br_f (by decide) (br_f (by decide) (br_f (by decide) (br_f (by decide) (br_f (by decide) (br_f (by decide) (br_f (by decide) (br_f (by decide) (br_f (by decide) (br_f (by decide) (br_f (by decide) (br_f (by decide) (br_t rfl h))))))))))))))))))))⟩
  · exact br_t hl ⟨hi, nm_r (e' := 90) ((congrArg b hc).trans h1) (br_f (by decide) (br_f (by decide) (br_f (by decide) (br_f (by decide) (br_f (by decide) (br_f (by decide) (br_f (by decide) (br_f (by decide) (br_f (by decide) (br_f (by decide) (br_f (by decide) (br_f (by decide) (br_f (by decide) (br_f (by decide) (br_f (by decide) (br_f (by decide) (br_f (by decide) (br_f (by decide) (br_f (by decide) (br_f (by decide) (br_f (by decide) (br_f (by decide) (br_f (by decide) (br_f (by decide) (br_f (by decide) (br_f (by decide) (br_t rfl h)))))))))))))))))))))))))))⟩
theorem ds_y27v {post : Int32 → Prop} (he : e ≤ 512) (hm : m < e) (hb : b m = 86) (h : (x3 = 0 → post (-3)) ∧ (¬ x3 = 0 → ((nI m = x1 → post (nI m + 1)) ∧ (¬ nI m = x1 → post (-3))))) : wY_type_27 post x1 (nI e) x3 (nI m) sz cn sl kd b o l := by
  have hc : (nI m).toNatClampNeg = m := nI_clamp (by omega)
  have hi : vp_in (nI m) 512 := vp_in_nI (by omega) (by omega)
  have hl : nI m < nI e := nI_lt hm (by omega)
  exact br_t hl ⟨hi, nm_r (e' := 86) ((congrArg b hc).trans hb) (br_f (by decide) (br_f (by decide) (br_f (by decide) (br_f (by decide) (br_f (by decide) (br_f (by decide) (br_f (by decide) (br_f (by decide) (br_f (by decide) (br_f (by decide) (br_f (by decide) (br_f (by decide) (br_f (by decide) (br_f (by decide) (br_f (by decide) (br_f (by decide) (br_f (by decide) (br_f (by decide) (br_f (by decide) (br_f (by decide) (br_f (by decide) (br_f (by decide) (br_t rfl h)))))))))))))))))))))))⟩
theorem ds_y27l {post : Int32 → Prop} (he : e ≤ 512) (hm : m < e) (hb : b m = 76) (h : wpY_name post (sz, cn, sl, kd, b, o, l) (nI (m + 1)) (nI e)) : wY_type_27 post x1 (nI e) x3 (nI m) sz cn sl kd b o l := by
  have hc : (nI m).toNatClampNeg = m := nI_clamp (by omega)
  have hi : vp_in (nI m) 512 := vp_in_nI (by omega) (by omega)
  have hl : nI m < nI e := nI_lt hm (by omega)
  rw [← nI_1 m] at h
  exact br_t hl ⟨hi, nm_r (e' := 76) ((congrArg b hc).trans hb) (br_f (by decide) (br_f (by decide) (br_f (by decide) (br_f (by decide) (br_f (by decide) (br_f (by decide) (br_f (by decide) (br_f (by decide) (br_f (by decide) (br_f (by decide) (br_f (by decide) (br_f (by decide) (br_t rfl h)))))))))))))⟩
theorem ds_y27o {post : Int32 → Prop} (he : e ≤ 512) (hm : m < e) (hb : ds_Ot (b m)) (h : post (-3)) : wY_type_27 post x1 (nI e) x3 (nI m) sz cn sl kd b o l := by
  have hc : (nI m).toNatClampNeg = m := nI_clamp (by omega)
  have hi : vp_in (nI m) 512 := vp_in_nI (by omega) (by omega)
  have hl : nI m < nI e := nI_lt hm (by omega)
  obtain ⟨h66, h67, h68, h70, h73, h74, h83, h90, h86, h76⟩ := hb
  exact br_t hl ⟨hi, nm_r (e' := b m) (congrArg b hc) (br_c (fun _ => h) (fun _ => br_c (fun _ => h) (fun _ => (br_c (fun z => absurd z h66) (fun _ => (br_c (fun z => absurd z h67) (fun _ => (br_c (fun z => absurd z h68) (fun _ => (br_c (fun _ => h) (fun _ => (br_c (fun z => absurd z h70) (fun _ => (br_c (fun _ => h) (fun _ => (br_c (fun _ => h) (fun _ => (br_c (fun z => absurd z h73) (fun _ => (br_c (fun z => absurd z h74) (fun _ => (br_c (fun _ => h) (fun _ => (br_c (fun z => absurd z h76) (fun _ => (br_c (fun _ => h) (fun _ => (br_c (fun _ => h) (fun _ => (br_c (fun _ => h) (fun _ => (br_c (fun _ => h) (fun _ => (br_c (fun _ => h) (fun _ => (br_c (fun _ => h) (fun _ => (br_c (fun z => absurd z h83) (fun _ => (br_c (fun _ => h) (fun _ => (br_c (fun _ => h) (fun _ => (br_c (fun z => absurd z h86) (fun _ => (br_c (fun _ => h) (fun _ => (br_c (fun _ => h) (fun _ => (br_c (fun _ => h) (fun _ => (br_c (fun z => absurd z h90) (fun _ => trivial)))))))))))))))))))))))))))))))))))))))))))))))))))))⟩
end
/-- the brackets ahead of a type -/
def ds_BO (b : Nat → Int32) (e p m : Nat) : Prop := p ≤ m ∧ m ≤ e ∧ (∀ i, p ≤ i → i < m → b i = 91) ∧ (m = e ∨ b m ≠ 91) ∧
  (∀ (post : Int32 → SX → Prop) (x3 x4 cap cn sl kd tc dp wd : Int32) (o l : Nat → Int32) (n : Nat), e - p < n → wX_readType_30 post (nI m) (nI e) x3 x4 cap cn sl kd tc dp wd b o l → wX_readType_8 post (nI e) x3 x4 cap cn sl kd tc dp wd b o l n (nI p)) ∧
  (∀ (post : Int32 → Prop) (x1 x3 sz cn sl kd : Int32) (o l : Nat → Int32) (n : Nat), e - p < n → wY_type_27 post x1 (nI e) x3 (nI m) sz cn sl kd b o l → wY_type_3 post x1 (nI e) x3 sz cn sl kd b o l n (nI p))
theorem ds_brk {b : Nat → Int32} {e : Nat} (he : e ≤ 512) : ∀ (k p : Nat), p + k = e → ∃ m, ds_BO b e p m := by
  intro k
  induction k with
  | zero =>
    intro p hk
    refine ⟨p, Nat.le_refl p, by omega, fun i h1 h2 => absurd h1 (by omega), Or.inl (by omega), ?_, ?_⟩
    · intro post x3 x4 cap cn sl kd tc dp wd o l n hn h
      obtain ⟨j, rfl⟩ := ds_s1 hn
      exact ds_x8e he (by omega) (Or.inl (by omega)) h
    · intro post x1 x3 sz cn sl kd o l n hn h
      obtain ⟨j, rfl⟩ := ds_s1 hn
      exact ds_y3e he (by omega) (Or.inl (by omega)) h
  | succ k ih =>
    intro p hk
    by_cases hb : b p = 91
    · obtain ⟨m, h1, h2, h3, h4, hX, hY⟩ := ih (p + 1) (by omega)
      refine ⟨m, by omega, h2, ?_, h4, ?_, ?_⟩
      · intro i hi hm
        by_cases hip : i = p
        · rw [hip]; exact hb
        · exact h3 i (by omega) hm
      · intro post x3 x4 cap cn sl kd tc dp wd o l n hn h
        obtain ⟨j, rfl⟩ := ds_s1 hn
        exact ds_x8s he (by omega) hb (hX post x3 x4 cap cn sl kd tc dp wd o l j (by omega) h)
      · intro post x1 x3 sz cn sl kd o l n hn h
        obtain ⟨j, rfl⟩ := ds_s1 hn
        exact ds_y3s he (by omega) hb (hY post x1 x3 sz cn sl kd o l j (by omega) h)
    · refine ⟨p, Nat.le_refl p, by omega, fun i h1 h2 => absurd h1 (by omega), Or.inr hb, ?_, ?_⟩
      · intro post x3 x4 cap cn sl kd tc dp wd o l n hn h
        obtain ⟨j, rfl⟩ := ds_s1 hn
        exact ds_x8e he (by omega) (Or.inr hb) h
      · intro post x1 x3 sz cn sl kd o l n hn h
        obtain ⟨j, rfl⟩ := ds_s1 hn
        exact ds_y3e he (by omega) (Or.inr hb) h
/-- both sides refuse the type at p with the code c -/
def ds_RF (b : Nat → Int32) (e p : Nat) (ret c : Int32) : Prop :=
  (∀ (cap cn sl kd tc dp wd : Int32) (o l : Nat → Int32), ∃ dp' wd' : Int32, ∀ post : Int32 → SX → Prop, post c (cap, cn, sl, kd, tc, dp', wd', b, o, l) → wpX_readType post (cap, cn, sl, kd, tc, dp, wd, b, o, l) (nI p) (nI e) ret) ∧
  (∀ (post : Int32 → Prop) (sz cn sl kd : Int32) (o l : Nat → Int32), post c → wpY_type post (sz, cn, sl, kd, b, o, l) (nI p) (nI e) ret)
/-- both sides read the type at p up to z -/
def ds_RS (b : Nat → Int32) (e p : Nat) (ret : Int32) (m z : Nat) : Prop :=
  (∀ (post : Int32 → SX → Prop) (cap cn sl kd : Int32) (t : Nat) (dp wd : Int32) (o l : Nat → Int32), t ≤ 512 → post (nI (z + 1)) (cap, cn, sl, kd, nI (ds_nt b m t), ds_nd p m dp, ds_nw b p m, b, ds_no b m t o, ds_nl b m z t l) → wpX_readType post (cap, cn, sl, kd, nI t, dp, wd, b, o, l) (nI p) (nI e) ret) ∧
  (∀ (post : Int32 → Prop) (sz cn sl kd : Int32) (o l : Nat → Int32), post (nI (z + 1)) → wpY_type post (sz, cn, sl, kd, b, o, l) (nI p) (nI e) ret)
def ds_RO (b : Nat → Int32) (e p : Nat) (ret : Int32) : Prop := (∃ c : Int32, ¬ 0 ≤ c ∧ ds_RF b e p ret c) ∨ (∃ m z, ds_Ty b e p m z ∧ ds_RS b e p ret m z)
section
variable {b : Nat → Int32} {e p m : Nat} {ret : Int32}
theorem ds_fail (he : e ≤ 512) (B : ds_BO b e p m) (hm : m < e) {c : Int32} (hc : ¬ 0 ≤ c)
    (hX : ∀ (post : Int32 → SX → Prop) (cap cn sl kd tc dp wd : Int32) (o l : Nat → Int32), post c (cap, cn, sl, kd, tc, dp, wd, b, o, l) → wX_readType_57 post (nI m) (nI e) ret (nI (m - p)) cap cn sl kd tc dp wd b o l)
    (hY : ∀ (post : Int32 → Prop) (sz cn sl kd : Int32) (o l : Nat → Int32), post c → wY_type_27 post (nI p) (nI e) ret (nI m) sz cn sl kd b o l) : ds_RO b e p ret := by
  obtain ⟨h1, h2, h3, h4, bX, bY⟩ := B
  refine Or.inl ⟨c, hc, ?_, ?_⟩
  · intro cap cn sl kd tc dp wd o l
    refine ⟨ds_nd p m dp, 0, fun post hp => ?_⟩
    exact Exists.intro (e - p + 1) (bX post ret (nI p) cap cn sl kd tc dp 0 o l (e - p + 1) (by omega) (ds_x30 he h1 hm (hX post cap cn sl kd tc (ds_nd p m dp) 0 o l hp)))
  · intro post sz cn sl kd o l hp
    exact Exists.intro (e - p + 1) (bY post (nI p) ret sz cn sl kd o l (e - p + 1) (by omega) (hY post sz cn sl kd o l hp))
theorem ds_good (he : e ≤ 512) (B : ds_BO b e p m) (hm : m < e) {z : Nat} (hT : ds_Ty b e p m z)
    (hX : ∀ (post : Int32 → SX → Prop) (cap cn sl kd : Int32) (t : Nat) (dp : Int32) (o l : Nat → Int32), t ≤ 512 → post (nI (z + 1)) (cap, cn, sl, kd, nI (ds_nt b m t), dp, ds_nw b p m, b, ds_no b m t o, ds_nl b m z t l) → wX_readType_57 post (nI m) (nI e) ret (nI (m - p)) cap cn sl kd (nI t) dp 0 b o l)
    (hY : ∀ (post : Int32 → Prop) (sz cn sl kd : Int32) (o l : Nat → Int32), post (nI (z + 1)) → wY_type_27 post (nI p) (nI e) ret (nI m) sz cn sl kd b o l) : ds_RO b e p ret := by
  obtain ⟨h1, h2, h3, h4, bX, bY⟩ := B
  refine Or.inr ⟨m, z, hT, ?_, ?_⟩
  · intro post cap cn sl kd t dp wd o l ht hp
    exact Exists.intro (e - p + 1) (bX post ret (nI p) cap cn sl kd (nI t) dp 0 o l (e - p + 1) (by omega) (ds_x30 he h1 hm (hX post cap cn sl kd t (ds_nd p m dp) o l ht hp)))
  · intro post sz cn sl kd o l hp
    exact Exists.intro (e - p + 1) (bY post (nI p) ret sz cn sl kd o l (e - p + 1) (by omega) (hY post sz cn sl kd o l hp))
/-- a type without a name: the base char is the last one -/
theorem ds_Ty1 (B : ds_BO b e p m) (hm : m < e) (h76 : b m ≠ 76) : ds_Ty b e p m m := by
  obtain ⟨h1, h2, h3, h4, bX, bY⟩ := B
  exact ⟨h1, Nat.le_refl m, hm, h3, h4.resolve_left (by omega), fun _ => rfl, fun z => absurd z h76⟩
theorem ds_nt1 (h76 : b m ≠ 76) (t : Nat) : ds_nt b m t = t := if_neg h76
theorem ds_no1 (h76 : b m ≠ 76) (t : Nat) (o : Nat → Int32) : ds_no b m t o = o := if_neg h76
theorem ds_nl1 (h76 : b m ≠ 76) (z t : Nat) (l : Nat → Int32) : ds_nl b m z t l = l := if_neg h76
theorem ds_nt2 (h76 : b m = 76) (t : Nat) : ds_nt b m t = t + 1 := if_pos h76
theorem ds_no2 (h76 : b m = 76) (t : Nat) (o : Nat → Int32) : ds_no b m t o = ds_put o t (ds_vo m) := if_pos h76
theorem ds_nl2 (h76 : b m = 76) (z t : Nat) (l : Nat → Int32) : ds_nl b m z t l = ds_put l t (ds_vl m z) := if_pos h76
theorem ds_nw0 {x : Int32} (h : b m = x) (h74 : x ≠ 74) (h68 : x ≠ 68) : ds_nw b p m = 0 := if_neg (fun z => z.2.elim (fun y => h74 (h.symm.trans y)) (fun y => h68 (h.symm.trans y)))
theorem ds_Pr76 (h : ds_Pr (b m)) : b m ≠ 76 := by
  rcases h with h | h | h | h | h | h | h | h <;> rw [h] <;> decide
theorem ds_rtp (he : e ≤ 512) (B : ds_BO b e p m) (hm : m < e) (hb : ds_Pr (b m)) : ds_RO b e p ret := by
  have h76 := ds_Pr76 hb
  have hp := B.1
  refine ds_good he B hm (ds_Ty1 B hm h76) ?_ ?_
  · intro post cap cn sl kd t dp o l ht h
    rw [ds_nt1 h76, ds_no1 h76, ds_nl1 h76] at h
    exact ds_x57p (by omega) hb (ds_x121 hp (by omega) h)
  · intro post sz cn sl kd o l h
    rw [← nI_1 m] at h
    exact ds_y27p he hm hb h
theorem ds_rto (he : e ≤ 512) (B : ds_BO b e p m) (hm : m < e) (hb : ds_Ot (b m)) : ds_RO b e p ret := by
  refine ds_fail (c := -3) he B hm (by decide) ?_ ?_
  · intro post cap cn sl kd tc dp wd o l h
    exact ds_x57o (by omega) hb h
  · intro post sz cn sl kd o l h
    exact ds_y27o he hm hb h
theorem ds_rtv (he : e ≤ 512) (B : ds_BO b e p m) (hm : m < e) (hb : b m = 86) : ds_RO b e p ret := by
  have hp := B.1
  have h76 : b m ≠ 76 := by rw [hb]; decide
  by_cases hr : ret = 0
  · refine ds_fail (c := -3) he B hm (by decide) ?_ ?_
    · intro post cap cn sl kd tc dp wd o l h
      exact ds_x57v (by omega) hb (br_t hr h)
    · intro post sz cn sl kd o l h
      exact ds_y27v he hm hb (br_t hr h)
  · by_cases hq : m = p
    · refine ds_good he B hm (ds_Ty1 B hm h76) ?_ ?_
      · intro post cap cn sl kd t dp o l ht h
        rw [ds_nt1 h76, ds_no1 h76, ds_nl1 h76, ds_nw0 hb (by decide) (by decide), ← nI_1 m] at h
        have h0 : nI (m - p) = 0 := by
          rw [show m - p = 0 by omega]
          exact nI_0
        exact ds_x57v (by omega) hb (br_f hr (br_t h0 h))
      · intro post sz cn sl kd o l h
        rw [← nI_1 m] at h
        exact ds_y27v he hm hb (br_f hr (br_t (congrArg nI hq) h))
    · refine ds_fail (c := -3) he B hm (by decide) ?_ ?_
      · intro post cap cn sl kd tc dp wd o l h
        exact ds_x57v (by omega) hb (br_f hr (br_f (nI_ne0 (by omega) (by omega)) h))
      · intro post sz cn sl kd o l h
        exact ds_y27v he hm hb (br_f hr (br_f (fun z => hq ((nI_eq (by omega) (by omega)).mp z)) h))
theorem ds_rtl (he : e ≤ 512) (B : ds_BO b e p m) (hm : m < e) (hb : b m = 76) : ds_RO b e p ret := by
  have hp := B.1
  rcases ds_name (b := b) (m := m) he (e - (m + 1)) (m + 1) 1 (by omega) (Nat.le_refl _) (Or.inl ⟨rfl, Or.inl rfl⟩) with ⟨c, hc, hX, hY⟩ | ⟨z, h1, h2, h3, h4, hX, hY⟩
  · refine ds_fail (c := c) he B hm hc ?_ ?_
    · intro post cap cn sl kd tc dp wd o l h
      exact ds_x57l (by omega) hb ⟨e + 1, hX post cap cn sl kd tc dp wd o l (e + 1) (by omega) h⟩
    · intro post sz cn sl kd o l h
      exact ds_y27l he hm hb (Exists.intro (e + 1) (hY post sz cn sl kd o l (e + 1) (by omega) h))
  · have hT : ds_Ty b e p m z := by
      obtain ⟨g1, g2, g3, g4, bX, bY⟩ := B
      exact ⟨g1, by omega, h2, g3, by rw [hb]; decide, fun y => absurd hb y, fun _ => ⟨by omega, h3, fun i y1 y2 => h4 i (by omega) y2⟩⟩
    refine ds_good he B hm hT ?_ ?_
    · intro post cap cn sl kd t dp o l ht h
      rw [ds_nt2 hb, ds_no2 hb, ds_nl2 hb, ds_nw0 hb (by decide) (by decide)] at h
      exact ds_x57l (by omega) hb ⟨e + 1, hX post cap cn sl kd t dp 0 o l (e + 1) ht (by omega) h⟩
    · intro post sz cn sl kd o l h
      exact ds_y27l he hm hb (Exists.intro (e + 1) (hY post sz cn sl kd o l (e + 1) (by omega) h))
/-- THE TYPE: one outcome for both sides -/
theorem ds_rt (he : e ≤ 512) (hp : p ≤ e) : ds_RO b e p ret := by
  obtain ⟨m, B⟩ := ds_brk (b := b) he (e - p) p (by omega)
  have hme := B.2.1
  by_cases hm : m = e
  · subst hm
    obtain ⟨h1, h2, h3, h4, bX, bY⟩ := B
    refine Or.inl ⟨-2, by decide, ?_, ?_⟩
    · intro cap cn sl kd tc dp wd o l
      exact ⟨dp, 0, fun post h => Exists.intro (m - p + 1) (bX post ret (nI p) cap cn sl kd tc dp 0 o l (m - p + 1) (by omega) (ds_x30e he h))⟩
    · intro post sz cn sl kd o l h
      exact Exists.intro (m - p + 1) (bY post (nI p) ret sz cn sl kd o l (m - p + 1) (by omega) (ds_y27e he h))
  · have hm' : m < e := by omega
    by_cases h86 : b m = 86
    · exact ds_rtv he B hm' h86
    by_cases h76 : b m = 76
    · exact ds_rtl he B hm' h76
    by_cases h66 : b m = 66
    · exact ds_rtp he B hm' (Or.inl h66)
    by_cases h67 : b m = 67
    · exact ds_rtp he B hm' (Or.inr (Or.inl h67))
    by_cases h68 : b m = 68
    · exact ds_rtp he B hm' (Or.inr (Or.inr (Or.inl h68)))
    by_cases h70 : b m = 70
    · exact ds_rtp he B hm' (Or.inr (Or.inr (Or.inr (Or.inl h70))))
    by_cases h73 : b m = 73
    · exact ds_rtp he B hm' (Or.inr (Or.inr (Or.inr (Or.inr (Or.inl h73)))))
    by_cases h74 : b m = 74
    · exact ds_rtp he B hm' (Or.inr (Or.inr (Or.inr (Or.inr (Or.inr (Or.inl h74))))))
    by_cases h83 : b m = 83
    · exact ds_rtp he B hm' (Or.inr (Or.inr (Or.inr (Or.inr (Or.inr (Or.inr (Or.inl h83)))))))
    by_cases h90 : b m = 90
    · exact ds_rtp he B hm' (Or.inr (Or.inr (Or.inr (Or.inr (Or.inr (Or.inr (Or.inr (h90))))))))
    exact ds_rto he B hm' ⟨h66, h67, h68, h70, h73, h74, h83, h90, h86, h76⟩
end
end
section
/-! ===== Y walks again over what it has read: deep, width, collect, one type at a time; each 'from behind the type to its head' ===== -/
def ds_DP (post : Int32 → Prop) (e : Nat) (sz cn sl kd : Int32) (b o l : Nat → Int32) (r i : Nat) : Prop := ∃ n, wY_deep_5 post (nI e) sz cn sl kd b o l n (nI r) (nI i)
section
variable {post : Int32 → Prop} {sz cn sl kd : Int32} {b o l : Nat → Int32} {e : Nat}
theorem ds_d91 {r i : Nat} (he : e ≤ 512) (hi : i < e) (hr : r + 1 ≤ 255) (hb : b i = 91) (h : ds_DP post e sz cn sl kd b o l (r + 1) (i + 1)) : ds_DP post e sz cn sl kd b o l r i := by
  obtain ⟨n, h⟩ := h
  have hc : (nI i).toNatClampNeg = i := nI_clamp (by omega)
  have hv : vp_in (nI i) 512 := vp_in_nI (by omega) (by omega)
  have K : wY_deep_30 post (wY_deep_5 post (nI e) sz cn sl kd b o l n) (nI e) (nI i) (nI (r + 1)) sz cn sl kd b o l :=
    pk_le (r + 1) 255 (fun _ => nm_r (nI_1 i) h) (fun z => absurd z (by omega))
  rw [← nI_1 r] at K
  exact Exists.intro (n + 1) (br_f (nI_ge hi (by omega)) ⟨hv, br_t ((congrArg b hc).trans hb) K⟩)
theorem ds_d91b {r i : Nat} (he : e ≤ 512) (hi : i < e) (hr : 255 < r + 1) (hr2 : r ≤ 512) (hb : b i = 91) (h : post 1) : ds_DP post e sz cn sl kd b o l r i := by
  have hc : (nI i).toNatClampNeg = i := nI_clamp (by omega)
  have hv : vp_in (nI i) 512 := vp_in_nI (by omega) (by omega)
  have K : wY_deep_30 post (wY_deep_5 post (nI e) sz cn sl kd b o l 0) (nI e) (nI i) (nI (r + 1)) sz cn sl kd b o l :=
    pk_le (r + 1) 255 (fun z => absurd z (by omega)) (fun _ => h)
  rw [← nI_1 r] at K
  exact Exists.intro (0 + 1) (br_f (nI_ge hi (by omega)) ⟨hv, br_t ((congrArg b hc).trans hb) K⟩)
theorem ds_dN {r i : Nat} (he : e ≤ 512) (hi : i < e) (hb : b i ≠ 91) (h : ds_DP post e sz cn sl kd b o l 0 (i + 1)) : ds_DP post e sz cn sl kd b o l r i := by
  obtain ⟨n, h⟩ := h
  have hc : (nI i).toNatClampNeg = i := nI_clamp (by omega)
  have hv : vp_in (nI i) 512 := vp_in_nI (by omega) (by omega)
  have K : wY_deep_30 post (wY_deep_5 post (nI e) sz cn sl kd b o l n) (nI e) (nI i) 0 sz cn sl kd b o l :=
    br_t (by decide) (nm_r (nI_1 i) h)
  exact Exists.intro (n + 1) (br_f (nI_ge hi (by omega)) ⟨hv, br_f (fun z => hb ((congrArg b hc).symm.trans z)) K⟩)
theorem ds_dE {r i : Nat} (he : i ≤ 512) (hi : e ≤ i) (h : post 0) : ds_DP post e sz cn sl kd b o l r i :=
  Exists.intro (0 + 1) (br_t (nI_le hi (by omega)) h)
theorem ds_dbr (he : e ≤ 512) : ∀ k r i : Nat, r + k ≤ 255 → i + k ≤ e → (∀ j, i ≤ j → j < i + k → b j = 91) → ds_DP post e sz cn sl kd b o l (r + k) (i + k) → ds_DP post e sz cn sl kd b o l r i := by
  intro k
  induction k with
  | zero => intro r i h1 h2 h3 h; exact h
  | succ k ih =>
    intro r i h1 h2 h3 h
    refine ds_d91 he (by omega) (by omega) (h3 i (Nat.le_refl i) (by omega)) (ih (r + 1) (i + 1) (by omega) (by omega) (fun j a b => h3 j (by omega) (by omega)) ?_)
    rw [show r + 1 + k = r + (k + 1) by omega, show i + 1 + k = i + (k + 1) by omega]
    exact h
theorem ds_dbig (he : e ≤ 512) : ∀ k r i : Nat, r ≤ 255 → 255 < r + k → i + k ≤ e → (∀ j, i ≤ j → j < i + k → b j = 91) → post 1 → ds_DP post e sz cn sl kd b o l r i := by
  intro k
  induction k with
  | zero => intro r i h0 h1 h2 h3 h; exact absurd h1 (by omega)
  | succ k ih =>
    intro r i h0 h1 h2 h3 h
    by_cases hr : r = 255
    · exact ds_d91b he (by omega) (by omega) (by omega) (h3 i (Nat.le_refl i) (by omega)) h
    · exact ds_d91 he (by omega) (by omega) (h3 i (Nat.le_refl i) (by omega)) (ih (r + 1) (i + 1) (by omega) (by omega) (by omega) (fun j a b => h3 j (by omega) (by omega)) h)
theorem ds_dsk (he : e ≤ 512) : ∀ k i : Nat, i + k ≤ e → (∀ j, i ≤ j → j < i + k → b j ≠ 91) → ds_DP post e sz cn sl kd b o l 0 (i + k) → ds_DP post e sz cn sl kd b o l 0 i := by
  intro k
  induction k with
  | zero => intro i h2 h3 h; exact h
  | succ k ih =>
    intro i h2 h3 h
    refine ds_dN he (by omega) (h3 i (Nat.le_refl i) (by omega)) (ih (i + 1) (by omega) (fun j a b => h3 j (by omega) (by omega)) ?_)
    rw [show i + 1 + k = i + (k + 1) by omega]
    exact h
/-- behind its base char a type holds no bracket -/
theorem ds_Ty91 {p m z j : Nat} (T : ds_Ty b e p m z) (h1 : m ≤ j) (h2 : j ≤ z) : b j ≠ 91 := by
  obtain ⟨t1, t2, t3, t4, t5, t6, t7⟩ := T
  by_cases h : j = m
  · rw [h]; exact t5
  · by_cases h76 : b m = 76
    · obtain ⟨u1, u2, u3⟩ := t7 h76
      by_cases hz : j = z
      · rw [hz, u2]; decide
      · exact (u3 j (by omega) (by omega)).2
    · have := t6 h76
      omega
theorem ds_dT {p m z : Nat} (he : e ≤ 512) (T : ds_Ty b e p m z) (hd : m - p ≤ 255) (h : ds_DP post e sz cn sl kd b o l 0 (z + 1)) : ds_DP post e sz cn sl kd b o l 0 p := by
  have T' := T
  obtain ⟨t1, t2, t3, t4, t5, t6, t7⟩ := T'
  refine ds_dbr he (m - p) 0 p (by omega) (by omega) (fun j a b => t4 j a (by omega)) ?_
  rw [show p + (m - p) = m by omega]
  refine ds_dN he (by omega) t5 (ds_dsk he (z - m) (m + 1) (by omega) (fun j a b => ds_Ty91 T (by omega) (by omega)) ?_)
  rw [show m + 1 + (z - m) = z + 1 by omega]
  exact h
theorem ds_dB {p m z : Nat} (he : e ≤ 512) (T : ds_Ty b e p m z) (hd : 255 < m - p) (h : post 1) : ds_DP post e sz cn sl kd b o l 0 p := by
  obtain ⟨t1, t2, t3, t4, t5, t6, t7⟩ := T
  exact ds_dbig he (m - p) 0 p (by omega) (by omega) (by omega) (fun j a b => t4 j a (by omega)) h
end
/-! ===== width ===== -/
def ds_WD (post : Int32 → Prop) (a x : Nat) (sz cn sl kd : Int32) (b o l : Nat → Int32) (s : Nat) (g : Int32) (i : Nat) : Prop := ∃ n, wY_width_8 post (nI a) (nI x) sz cn sl kd b o l n (nI s) g (nI i)
/-- the slots of a type -/
def ds_ws (b : Nat → Int32) (p m : Nat) : Nat := if m = p ∧ (b m = 74 ∨ b m = 68) then 2 else 1
section
variable {post : Int32 → Prop} {sz cn sl kd : Int32} {b o l : Nat → Int32} {a x : Nat}
theorem ds_wbr {s i : Nat} (hx : x ≤ 512) (hi : i < x) (hb : b i = 91) (h : ds_WD post a x sz cn sl kd b o l s 0 (i + 1)) : ds_WD post a x sz cn sl kd b o l s 0 i := by
  obtain ⟨n, h⟩ := h
  have hc : (nI i).toNatClampNeg = i := nI_clamp (by omega)
  have hv : vp_in (nI i) 512 := vp_in_nI (by omega) (by omega)
  exact Exists.intro (n + 1) (br_f (nI_ge hi (by omega)) ⟨hv, nm_r (e' := 91) ((congrArg b hc).trans hb) (br_t rfl (br_t rfl (nm_r (nI_1 i) h)))⟩)
theorem ds_wnm {s i : Nat} (hx : x ≤ 512) (hi : i < x) (hb : b i ≠ 59) (h : ds_WD post a x sz cn sl kd b o l s 1 (i + 1)) : ds_WD post a x sz cn sl kd b o l s 1 i := by
  obtain ⟨n, h⟩ := h
  have hc : (nI i).toNatClampNeg = i := nI_clamp (by omega)
  have hv : vp_in (nI i) 512 := vp_in_nI (by omega) (by omega)
  exact Exists.intro (n + 1) (br_f (nI_ge hi (by omega)) ⟨hv, nm_r (e' := b i) (congrArg b hc) (br_f (by decide) (br_f hb (nm_r (nI_1 i) h)))⟩)
theorem ds_wen {s i : Nat} (hx : x ≤ 512) (hi : i < x) (hb : b i = 59) (h : ds_WD post a x sz cn sl kd b o l s 0 (i + 1)) : ds_WD post a x sz cn sl kd b o l s 1 i := by
  obtain ⟨n, h⟩ := h
  have hc : (nI i).toNatClampNeg = i := nI_clamp (by omega)
  have hv : vp_in (nI i) 512 := vp_in_nI (by omega) (by omega)
  exact Exists.intro (n + 1) (br_f (nI_ge hi (by omega)) ⟨hv, nm_r (e' := 59) ((congrArg b hc).trans hb) (br_f (by decide) (br_t rfl (nm_r (nI_1 i) h)))⟩)
theorem ds_wE {s i : Nat} {g : Int32} (hi : x ≤ i) (hx : i ≤ 512) (h : post (nI s)) : ds_WD post a x sz cn sl kd b o l s g i :=
  Exists.intro (0 + 1) (br_t (nI_le hi (by omega)) h)
theorem ds_w88 {J : Int32 → Int32 → Int32 → Prop} {x1 x2 g z0 : Int32} {s i w : Nat} (hz : z0 = nI w) (hg : (b i = 76 ∧ g = 1) ∨ (b i ≠ 76 ∧ g = 0)) (h : J (nI (s + w)) g (nI (i + 1))) : wY_width_88 post J x1 x2 (nI i) (b i) z0 (nI s) sz cn sl kd b o l := by
  subst hz
  rcases hg with ⟨h1, rfl⟩ | ⟨h1, rfl⟩
  · exact nm_r (nI_add s w) (br_t h1 (nm_r (nI_1 i) h))
  · exact nm_r (nI_add s w) (br_f h1 (nm_r (nI_1 i) h))
theorem ds_wB {s i w : Nat} {g : Int32} (hx : x ≤ 512) (hi : i < x) (ha : a ≤ i) (h91 : b i ≠ 91) (hg : (b i = 76 ∧ g = 1) ∨ (b i ≠ 76 ∧ g = 0))
    (hw : (w = 2 ∧ (b i = 74 ∨ b i = 68) ∧ (i = a ∨ b (i - 1) ≠ 91)) ∨ (w = 1 ∧ ¬ (b i = 74 ∨ b i = 68)) ∨ (w = 1 ∧ i ≠ a ∧ b (i - 1) = 91))
    (h : ds_WD post a x sz cn sl kd b o l (s + w) g (i + 1)) : ds_WD post a x sz cn sl kd b o l s 0 i := by
  obtain ⟨n, h⟩ := h
  have hc : (nI i).toNatClampNeg = i := nI_clamp (by omega)
  have hv : vp_in (nI i) 512 := vp_in_nI (by omega) (by omega)
  have hl : ¬ nI x ≤ nI i := nI_ge hi (by omega)
  have K : ∀ z0 : Int32, z0 = nI w → wY_width_88 post (wY_width_8 post (nI a) (nI x) sz cn sl kd b o l n) (nI a) (nI x) (nI i) (b i) z0 (nI s) sz cn sl kd b o l := fun z0 hz => ds_w88 hz hg h
  have K63 : (w = 2 ∧ (i = a ∨ b (i - 1) ≠ 91)) ∨ (w = 1 ∧ i ≠ a ∧ b (i - 1) = 91) → wY_width_63 post (wY_width_8 post (nI a) (nI x) sz cn sl kd b o l n) (nI a) (nI x) (nI i) (b i) (nI s) sz cn sl kd b o l := by
    intro hh
    by_cases hia : i = a
    · rcases hh with ⟨rfl, _⟩ | ⟨_, h2, _⟩
      · exact br_t (congrArg nI hia) (K 2 rfl)
      · exact absurd hia h2
    · have h2 : ¬ nI i = nI a := fun z => hia ((nI_eq (by omega) (by omega)).mp z)
      have h3 : nI i - 1 = nI (i - 1) := by
        obtain ⟨r, rfl⟩ : ∃ r, i = r + 1 := ⟨i - 1, by omega⟩
        exact nI_pred r
      have h4 : (nI i - 1).toNatClampNeg = i - 1 := by rw [h3]; exact nI_clamp (by omega)
      have h5 : vp_in (nI i - 1) 512 := by rw [h3]; exact vp_in_nI (by omega) (by omega)
      rcases hh with ⟨rfl, h6 | h6⟩ | ⟨rfl, _, h6⟩
      · exact absurd h6 hia
      · exact br_f h2 ⟨h5, br_f (fun z => h6 ((congrArg b h4).symm.trans z)) (K 2 rfl)⟩
      · exact br_f h2 ⟨h5, br_t ((congrArg b h4).trans h6) (K 1 rfl)⟩
  by_cases h74 : b i = 74
  · have hh : (w = 2 ∧ (i = a ∨ b (i - 1) ≠ 91)) ∨ (w = 1 ∧ i ≠ a ∧ b (i - 1) = 91) := by
      rcases hw with ⟨h1, _, h2⟩ | ⟨_, h2⟩ | h2
      · exact Or.inl ⟨h1, h2⟩
      · exact absurd (Or.inl h74) h2
      · exact Or.inr h2
    exact Exists.intro (n + 1) (br_f hl ⟨hv, nm_r (e' := b i) (congrArg b hc) (br_t rfl (br_f h91 (br_t h74 (K63 hh))))⟩)
  · by_cases h68 : b i = 68
    · have hh : (w = 2 ∧ (i = a ∨ b (i - 1) ≠ 91)) ∨ (w = 1 ∧ i ≠ a ∧ b (i - 1) = 91) := by
        rcases hw with ⟨h1, _, h2⟩ | ⟨_, h2⟩ | h2
        · exact Or.inl ⟨h1, h2⟩
        · exact absurd (Or.inr h68) h2
        · exact Or.inr h2
      exact Exists.intro (n + 1) (br_f hl ⟨hv, nm_r (e' := b i) (congrArg b hc) (br_t rfl (br_f h91 (br_f h74 (br_t h68 (K63 hh)))))⟩)
    · have hh : w = 1 := by
        rcases hw with ⟨_, h1 | h1, _⟩ | ⟨h2, _⟩ | ⟨h2, _⟩
        · exact absurd h1 h74
        · exact absurd h1 h68
        · exact h2
        · exact h2
      subst hh
      exact Exists.intro (n + 1) (br_f hl ⟨hv, nm_r (e' := b i) (congrArg b hc) (br_t rfl (br_f h91 (br_f h74 (br_f h68 (K 1 rfl)))))⟩)
theorem ds_wbs (hx : x ≤ 512) (s : Nat) : ∀ k i : Nat, i + k ≤ x → (∀ j, i ≤ j → j < i + k → b j = 91) → ds_WD post a x sz cn sl kd b o l s 0 (i + k) → ds_WD post a x sz cn sl kd b o l s 0 i := by
  intro k
  induction k with
  | zero => intro i h2 h3 h; exact h
  | succ k ih =>
    intro i h2 h3 h
    refine ds_wbr hx (by omega) (h3 i (Nat.le_refl i) (by omega)) (ih (i + 1) (by omega) (fun j a b => h3 j (by omega) (by omega)) ?_)
    rw [show i + 1 + k = i + (k + 1) by omega]
    exact h
theorem ds_wns (hx : x ≤ 512) (s : Nat) : ∀ k i : Nat, i + k ≤ x → (∀ j, i ≤ j → j < i + k → b j ≠ 59) → ds_WD post a x sz cn sl kd b o l s 1 (i + k) → ds_WD post a x sz cn sl kd b o l s 1 i := by
  intro k
  induction k with
  | zero => intro i h2 h3 h; exact h
  | succ k ih =>
    intro i h2 h3 h
    refine ds_wnm hx (by omega) (h3 i (Nat.le_refl i) (by omega)) (ih (i + 1) (by omega) (fun j a b => h3 j (by omega) (by omega)) ?_)
    rw [show i + 1 + k = i + (k + 1) by omega]
    exact h
theorem ds_wT {e p m z s : Nat} (hx : x ≤ 512) (hzx : z < x) (ha : a ≤ p) (hp : p = a ∨ b (p - 1) ≠ 91) (T : ds_Ty b e p m z) (h : ds_WD post a x sz cn sl kd b o l (s + ds_ws b p m) 0 (z + 1)) : ds_WD post a x sz cn sl kd b o l s 0 p := by
  obtain ⟨t1, t2, t3, t4, t5, t6, t7⟩ := T
  refine ds_wbs hx s (m - p) p (by omega) (fun j a b => t4 j a (by omega)) ?_
  rw [show p + (m - p) = m by omega]
  have hw : (ds_ws b p m = 2 ∧ (b m = 74 ∨ b m = 68) ∧ (m = a ∨ b (m - 1) ≠ 91)) ∨ (ds_ws b p m = 1 ∧ ¬ (b m = 74 ∨ b m = 68)) ∨ (ds_ws b p m = 1 ∧ m ≠ a ∧ b (m - 1) = 91) := by
    by_cases h1 : b m = 74 ∨ b m = 68
    · by_cases h2 : m = p
      · refine Or.inl ⟨if_pos ⟨h2, h1⟩, h1, ?_⟩
        rw [h2]; exact hp
      · exact Or.inr (Or.inr ⟨if_neg (fun y => h2 y.1), by omega, t4 (m - 1) (by omega) (by omega)⟩)
    · exact Or.inr (Or.inl ⟨if_neg (fun y => h1 y.2), h1⟩)
  by_cases h76 : b m = 76
  · obtain ⟨u1, u2, u3⟩ := t7 h76
    refine ds_wB hx (by omega) (by omega) t5 (Or.inl ⟨h76, rfl⟩) hw ?_
    refine ds_wns hx _ (z - (m + 1)) (m + 1) (by omega) (fun j a b => (u3 j (by omega) (by omega)).1) ?_
    rw [show m + 1 + (z - (m + 1)) = z by omega]
    exact ds_wen hx hzx u2 h
  · have hz := t6 h76
    subst hz
    exact ds_wB hx hzx (by omega) t5 (Or.inr ⟨h76, rfl⟩) hw h
end
/-! ===== collect ===== -/
def ds_CL (post : SY → Prop) (e : Nat) (sz sl kd : Int32) (b : Nat → Int32) (st : Int32) (i t : Nat) (o l : Nat → Int32) : Prop := ∃ n, wY_collect_5 post (nI e) sz sl kd n st (nI i) (nI t) b o l
section
variable {post : SY → Prop} {sz sl kd : Int32} {b : Nat → Int32} {e : Nat}
theorem ds_cN {i t : Nat} {o l : Nat → Int32} (he : e ≤ 512) (hi : i < e) (hb : b i ≠ 76) (h : ds_CL post e sz sl kd b (-1) (i + 1) t o l) : ds_CL post e sz sl kd b (-1) i t o l := by
  obtain ⟨n, h⟩ := h
  have hc : (nI i).toNatClampNeg = i := nI_clamp (by omega)
  have hv : vp_in (nI i) 512 := vp_in_nI (by omega) (by omega)
  exact Exists.intro (n + 1) (br_f (nI_ge hi (by omega)) (br_f (by decide) ⟨hv, br_f (fun z => hb ((congrArg b hc).symm.trans z)) (nm_r (nI_1 i) h)⟩))
theorem ds_cL {i t : Nat} {o l : Nat → Int32} (he : e ≤ 512) (hi : i < e) (hb : b i = 76) (h : ds_CL post e sz sl kd b (nI (i + 1)) (i + 1) t o l) : ds_CL post e sz sl kd b (-1) i t o l := by
  obtain ⟨n, h⟩ := h
  have hc : (nI i).toNatClampNeg = i := nI_clamp (by omega)
  have hv : vp_in (nI i) 512 := vp_in_nI (by omega) (by omega)
  exact Exists.intro (n + 1) (br_f (nI_ge hi (by omega)) (br_f (by decide) ⟨hv, br_t ((congrArg b hc).trans hb) (nm_r (nI_1 i) (nm_r (nI_1 i) h))⟩))
theorem ds_cS {i t s : Nat} {o l : Nat → Int32} (he : e ≤ 512) (hi : i < e) (hs : s ≤ 512) (hb : b i ≠ 59) (h : ds_CL post e sz sl kd b (nI s) (i + 1) t o l) : ds_CL post e sz sl kd b (nI s) i t o l := by
  obtain ⟨n, h⟩ := h
  have hc : (nI i).toNatClampNeg = i := nI_clamp (by omega)
  have hv : vp_in (nI i) 512 := vp_in_nI (by omega) (by omega)
  exact Exists.intro (n + 1) (br_f (nI_ge hi (by omega)) (br_t (nI_pos' (by omega)) ⟨hv, br_f (fun z => hb ((congrArg b hc).symm.trans z)) (nm_r (nI_1 i) h)⟩))
theorem ds_cE {i t m : Nat} {o l : Nat → Int32} (he : e ≤ 512) (hi : i < e) (hm : m < i) (ht : t ≤ 512) (hb : b i = 59) (h : ds_CL post e sz sl kd b (-1) (i + 1) (t + 1) (ds_put o t (ds_vo m)) (ds_put l t (ds_vl m i))) : ds_CL post e sz sl kd b (nI (m + 1)) i t o l := by
  obtain ⟨n, h⟩ := h
  have hc : (nI i).toNatClampNeg = i := nI_clamp (by omega)
  have hv : vp_in (nI i) 512 := vp_in_nI (by omega) (by omega)
  refine Exists.intro (n + 1) (br_f (nI_ge hi (by omega)) (br_t (nI_pos' (by omega)) ⟨hv, br_t ((congrArg b hc).trans hb) (nm_r (nI_1 t) ?_)⟩))
  refine pk_le 16 t (fun h2 => ?_) (fun h2 => ?_)
  · unfold ds_put at h
    rw [if_neg (by omega), if_neg (by omega)] at h
    exact nm_r (nI_1 i) h
  · unfold ds_put at h
    rw [if_pos h2, if_pos h2] at h
    have ht' : (nI t).toNatClampNeg = t := nI_clamp (by omega)
    have hw : vp_in (nI t) 16 := vp_in_nI h2 (by omega)
    exact ⟨hw, nm_r (e' := upd o t (ds_vo m)) (by rw [ht']; rfl) ⟨hw, nm_r (e' := upd l t (ds_vl m i)) (by rw [ht']; rfl) (nm_r (nI_1 i) h)⟩⟩
theorem ds_cX {i t : Nat} {st : Int32} {o l : Nat → Int32} (he : i ≤ 512) (hi : e ≤ i) (h : post (sz, nI t, sl, kd, b, o, l)) : ds_CL post e sz sl kd b st i t o l :=
  Exists.intro (0 + 1) (br_t (nI_le hi (by omega)) h)
theorem ds_cNs {t : Nat} {o l : Nat → Int32} (he : e ≤ 512) : ∀ k i : Nat, i + k ≤ e → (∀ j, i ≤ j → j < i + k → b j ≠ 76) → ds_CL post e sz sl kd b (-1) (i + k) t o l → ds_CL post e sz sl kd b (-1) i t o l := by
  intro k
  induction k with
  | zero => intro i h2 h3 h; exact h
  | succ k ih =>
    intro i h2 h3 h
    refine ds_cN he (by omega) (h3 i (Nat.le_refl i) (by omega)) (ih (i + 1) (by omega) (fun j a b => h3 j (by omega) (by omega)) ?_)
    rw [show i + 1 + k = i + (k + 1) by omega]
    exact h
theorem ds_cSs {t s : Nat} {o l : Nat → Int32} (he : e ≤ 512) (hs : s ≤ 512) : ∀ k i : Nat, i + k ≤ e → (∀ j, i ≤ j → j < i + k → b j ≠ 59) → ds_CL post e sz sl kd b (nI s) (i + k) t o l → ds_CL post e sz sl kd b (nI s) i t o l := by
  intro k
  induction k with
  | zero => intro i h2 h3 h; exact h
  | succ k ih =>
    intro i h2 h3 h
    refine ds_cS he (by omega) hs (h3 i (Nat.le_refl i) (by omega)) (ih (i + 1) (by omega) (fun j a b => h3 j (by omega) (by omega)) ?_)
    rw [show i + 1 + k = i + (k + 1) by omega]
    exact h
theorem ds_cT {p m z t : Nat} {o l : Nat → Int32} (he : e ≤ 512) (ht : t ≤ 512) (T : ds_Ty b e p m z) (h : ds_CL post e sz sl kd b (-1) (z + 1) (ds_nt b m t) (ds_no b m t o) (ds_nl b m z t l)) : ds_CL post e sz sl kd b (-1) p t o l := by
  obtain ⟨t1, t2, t3, t4, t5, t6, t7⟩ := T
  refine ds_cNs he (m - p) p (by omega) (fun j a b => by rw [t4 j a (by omega)]; decide) ?_
  rw [show p + (m - p) = m by omega]
  by_cases h76 : b m = 76
  · obtain ⟨u1, u2, u3⟩ := t7 h76
    rw [ds_nt2 h76, ds_no2 h76, ds_nl2 h76] at h
    refine ds_cL he (by omega) h76 (ds_cSs he (by omega) (z - (m + 1)) (m + 1) (by omega) (fun j a b => (u3 j (by omega) (by omega)).1) ?_)
    rw [show m + 1 + (z - (m + 1)) = z by omega]
    exact ds_cE he t3 u1 ht u2 h
  · have hz := t6 h76
    subst hz
    rw [ds_nt1 h76, ds_no1 h76, ds_nl1 h76] at h
    exact ds_cN he t3 h76 h
end
end
section
/-! ===== the relation, the guards, the invariants of a scan ===== -/
/-- the class entries agree, as far as they can be asked for -/
def ds_Ag (t : Nat) (o o' : Nat → Int32) : Prop := ∀ k, k < t → k < 16 → o k = o' k
/-- capacity, count, slots, kind and buffer are the same; the entries below the count agree -/
def i_Rel (k : Nat) (u : SX) (v : SY) : Prop := ∃ (c t : Nat) (sl kd tc dp wd : Int32) (b o l o' l' : Nat → Int32), c ≤ 512 ∧ t ≤ 512 ∧ ds_Ag t o o' ∧ ds_Ag t l l' ∧ u = (nI c, nI t, sl, kd, tc, dp, wd, b, o, l) ∧ v = (nI c, nI t, sl, kd, b, o', l')
theorem ds_rel {k c t : Nat} {sl kd tc dp wd : Int32} {b o l o' l' : Nat → Int32} (hc : c ≤ 512) (ht : t ≤ 512) (ho : ds_Ag t o o') (hl : ds_Ag t l l') : i_Rel k (nI c, nI t, sl, kd, tc, dp, wd, b, o, l) (nI c, nI t, sl, kd, b, o', l') :=
  ⟨c, t, sl, kd, tc, dp, wd, b, o, l, o', l', hc, ht, ho, hl, rfl, rfl⟩
theorem ds_Ag0 {o o' : Nat → Int32} : ds_Ag 0 o o' := fun k h => absurd h (Nat.not_lt_zero k)
theorem ds_rel0 {k c : Nat} {tc dp wd : Int32} {b o l o' l' : Nat → Int32} (hc : c ≤ 512) : i_Rel k (nI c, 0, 0, 0, tc, dp, wd, b, o, l) (nI c, 0, 0, 0, b, o', l') :=
  ds_rel (t := 0) hc (by omega) ds_Ag0 ds_Ag0
theorem ds_AgP {t : Nat} {o o' : Nat → Int32} {x : Int32} (h : ds_Ag t o o') : ds_Ag (t + 1) (ds_put o t x) (ds_put o' t x) := by
  intro k h1 h2
  unfold ds_put
  by_cases h3 : t < 16
  · rw [if_pos h3, if_pos h3]
    by_cases h4 : k = t
    · rw [h4, pk_us, pk_us]
    · rw [pk_un h4, pk_un h4]
      exact h k (by omega) h2
  · rw [if_neg h3, if_neg h3]
    exact h k (by omega) h2
theorem ds_AgO {b o o' : Nat → Int32} {m t : Nat} (h : ds_Ag t o o') : ds_Ag (ds_nt b m t) (ds_no b m t o) (ds_no b m t o') := by
  by_cases h76 : b m = 76
  · rw [ds_nt2 h76, ds_no2 h76, ds_no2 h76]; exact ds_AgP h
  · rw [ds_nt1 h76, ds_no1 h76, ds_no1 h76]; exact h
theorem ds_AgL {b l l' : Nat → Int32} {m z t : Nat} (h : ds_Ag t l l') : ds_Ag (ds_nt b m t) (ds_nl b m z t l) (ds_nl b m z t l') := by
  by_cases h76 : b m = 76
  · rw [ds_nt2 h76, ds_nl2 h76, ds_nl2 h76]; exact ds_AgP h
  · rw [ds_nt1 h76, ds_nl1 h76, ds_nl1 h76]; exact h
theorem ds_ntB {b : Nat → Int32} {m t : Nat} : ds_nt b m t ≤ t + 1 := by
  by_cases h76 : b m = 76
  · rw [ds_nt2 h76]; omega
  · rw [ds_nt1 h76]; omega
/-! the guards -/
def ds_Bad (v1 v2 : Int32) (c : Nat) : Prop := v1 < 0 ∨ (¬ v1 < 0 ∧ ¬ 0 ≤ v2) ∨ (¬ v1 < 0 ∧ 0 ≤ v2 ∧ ¬ (v1.toInt64 + v2.toInt64) ≤ (nI c).toInt64)
theorem ds_grd (v1 v2 : Int32) {c : Nat} (hc : c ≤ 512) : ds_Bad v1 v2 c ∨ ∃ a d : Nat, a + d ≤ c ∧ v1 = nI a ∧ v2 = nI d ∧ ¬ v1 < 0 ∧ 0 ≤ v2 ∧ (v1.toInt64 + v2.toInt64) ≤ (nI c).toInt64 := by
  by_cases h1 : v1 < 0
  · exact Or.inl (Or.inl h1)
  by_cases h2 : 0 ≤ v2
  · by_cases h3 : (v1.toInt64 + v2.toInt64) ≤ (nI c).toInt64
    · obtain ⟨a, ha, e1⟩ := nI_of h1
      obtain ⟨d, hd, e2⟩ := nI_of (x := v2) (Int32.not_lt.mpr h2)
      refine Or.inr ⟨a, d, ?_, e1, e2, h1, h2, h3⟩
      rw [e1, e2, nI_l ha, nI_l hd, nI_l (by omega), lN_add, pk_lLE (by omega) (by omega)] at h3
      exact h3
    · exact Or.inl (Or.inr (Or.inr ⟨h1, h2, h3⟩))
  · exact Or.inl (Or.inr (Or.inl ⟨h1, h2⟩))
theorem ds_xbad {v1 v2 : Int32} {c : Nat} {A G : Prop} (h : ds_Bad v1 v2 c) (a : A) : (v1 < 0 → A) ∧ (¬ v1 < 0 → ((0 ≤ v2 → (((v1.toInt64 + v2.toInt64) ≤ (nI c).toInt64 → G) ∧ (¬ (v1.toInt64 + v2.toInt64) ≤ (nI c).toInt64 → A))) ∧ (¬ 0 ≤ v2 → A))) := by
  rcases h with h | ⟨h1, h2⟩ | ⟨h1, h2, h3⟩
  · exact br_t h a
  · exact br_f h1 (br_f h2 a)
  · exact br_f h1 (br_t h2 (br_f h3 a))
theorem ds_ybad {post : Int32 → Prop} {v1 v2 : Int32} {c : Nat} {cn sl kd : Int32} {b o l : Nat → Int32} (h : ds_Bad v1 v2 c) (a : post 1) : wpY_bad post (nI c, cn, sl, kd, b, o, l) v1 v2 := by
  rcases h with h | ⟨h1, h2⟩ | ⟨h1, h2, h3⟩
  · exact br_t h a
  · exact br_f h1 (br_t (Int32.not_le.mp h2) a)
  · exact br_f h1 (br_f (Int32.not_lt.mpr h2) (br_f h3 a))
theorem ds_yok {post : Int32 → Prop} {v1 v2 : Int32} {c : Nat} {cn sl kd : Int32} {b o l : Nat → Int32} (h1 : ¬ v1 < 0) (h2 : 0 ≤ v2) (h3 : (v1.toInt64 + v2.toInt64) ≤ (nI c).toInt64) (a : post 0) : wpY_bad post (nI c, cn, sl, kd, b, o, l) v1 v2 :=
  br_f h1 (br_f (Int32.not_lt.mpr h2) (br_t h3 a))
/-! the invariants of scanMethod's loop: what Y will ask again -/
def ds_DI (e off : Nat) (sz : Int32) (b o l : Nat → Int32) (dp : Int32) (p : Nat) : Prop :=
  (dp = 0 ∧ ∀ post : Int32 → Prop, ds_DP post e sz 0 0 0 b o l 0 p → ds_DP post e sz 0 0 0 b o l 0 off) ∨ (dp = 1 ∧ ∀ post : Int32 → Prop, post 1 → ds_DP post e sz 0 0 0 b o l 0 off)
def ds_WI (off : Nat) (sz : Int32) (b o l : Nat → Int32) (tot p : Nat) : Prop :=
  ∀ (post : Int32 → Prop) (x : Nat), x ≤ 512 → p ≤ x → ds_WD post (off + 1) x sz 0 0 0 b o l tot 0 p → ds_WD post (off + 1) x sz 0 0 0 b o l 0 0 (off + 1)
def ds_CI (e off : Nat) (sz : Int32) (b o l : Nat → Int32) (p t : Nat) (o' l' : Nat → Int32) : Prop :=
  ∀ post : SY → Prop, ds_CL post e sz 0 0 b (-1) p t o' l' → ds_CL post e sz 0 0 b (-1) off 0 o l
section
variable {e off p m z t tot : Nat} {sz dp : Int32} {b o l o' l' : Nat → Int32}
theorem ds_DI1 (he : e ≤ 512) (hp : p < e) (hb : b p ≠ 91) (h : ds_DI e off sz b o l dp p) : ds_DI e off sz b o l dp (p + 1) := by
  rcases h with ⟨h1, h2⟩ | h
  · exact Or.inl ⟨h1, fun post hp' => h2 post (ds_dN he hp hb hp')⟩
  · exact Or.inr h
theorem ds_DIT (he : e ≤ 512) (T : ds_Ty b e p m z) (h : ds_DI e off sz b o l dp p) : ds_DI e off sz b o l (ds_nd p m dp) (z + 1) := by
  unfold ds_nd
  by_cases hd : 255 < m - p
  · rw [if_pos hd]
    rcases h with ⟨h1, h2⟩ | h
    · exact Or.inr ⟨rfl, fun post hp' => h2 post (ds_dB he T hd hp')⟩
    · exact Or.inr ⟨rfl, h.2⟩
  · rw [if_neg hd]
    rcases h with ⟨h1, h2⟩ | h
    · exact Or.inl ⟨h1, fun post hp' => h2 post (ds_dT he T (by omega) hp')⟩
    · exact Or.inr h
theorem ds_DI0 : ds_DI e off sz b o l 0 off := Or.inl ⟨rfl, fun _ h => h⟩
theorem ds_WIT (he : e ≤ 512) (T : ds_Ty b e p m z) (ha : off + 1 ≤ p) (hp : p = off + 1 ∨ b (p - 1) ≠ 91) (h : ds_WI off sz b o l tot p) : ds_WI off sz b o l (tot + ds_ws b p m) (z + 1) := by
  intro post x hx hz hh
  have h1 := T.1
  have h2 := T.2.1
  exact h post x hx (by omega) (ds_wT hx (by omega) ha hp T hh)
theorem ds_CI1 (he : e ≤ 512) (hp : p < e) (hb : b p ≠ 76) (h : ds_CI e off sz b o l p t o' l') : ds_CI e off sz b o l (p + 1) t o' l' :=
  fun post hh => h post (ds_cN he hp hb hh)
theorem ds_CIT (he : e ≤ 512) (ht : t ≤ 512) (T : ds_Ty b e p m z) (h : ds_CI e off sz b o l p t o' l') : ds_CI e off sz b o l (z + 1) (ds_nt b m t) (ds_no b m t o') (ds_nl b m z t l') :=
  fun post hh => h post (ds_cT he ht T hh)
end
end
section
/-! ===== scanField ===== -/
theorem ds_sf {k c a d : Nat} (hc : c ≤ 512) (had : a + d ≤ c) (g1 : ¬ nI a < 0) (g2 : 0 ≤ nI d) (g3 : ((nI a).toInt64 + (nI d).toInt64) ≤ (nI c).toInt64) {cn sl kd tc dp wd cn' sl' kd' : Int32} {b o l o' l' : Nat → Int32} :
    ∃ (r : Int32) (u' : SX) (v' : SY), i_Rel k u' v' ∧ (∀ post : Int32 → SX → Prop, post r u' → wpX_scanField post (nI c, cn, sl, kd, tc, dp, wd, b, o, l) (nI a) (nI d)) ∧ (∀ post : Int32 → SY → Prop, post r v' → wpY_scanField post (nI c, cn', sl', kd', b, o', l') (nI a) (nI d)) := by
  have he : a + d ≤ 512 := by omega
  rcases ds_rt (b := b) (p := a) (ret := 0) he (by omega) with ⟨x, hx, hX, hY⟩ | ⟨m, z, T, hX, hY⟩
  · obtain ⟨dp', wd', hX⟩ := hX (nI c) 0 0 0 0 0 0 o l
    refine ⟨-x, (nI c, 0, 0, 0, 0, dp', wd', b, o, l), (nI c, 0, 0, 0, b, o', l'), ds_rel0 hc, fun post h => ?_, fun post h => ?_⟩
    · exact br_f g1 (br_t g2 (br_t g3 (nm_r (nI_add a d) (hX _ (br_f hx h)))))
    · unfold wpY_scanField
      dsimp only
      refine ds_yok g1 g2 g3 (br_t rfl (nm_r (nI_add a d) ?_))
      exact hY _ (nI c) 0 0 0 o' l' (br_f hx h)
  · have T' := T
    obtain ⟨t1, t2, t3, _, _, _, _⟩ := T'
    have hr : 0 ≤ nI (z + 1) := nI_pos' (by omega)
    by_cases hz : z + 1 = a + d
    · have hle : nI (a + d) ≤ nI (z + 1) := nI_le (by omega) (by omega)
      by_cases hd : 255 < m - a
      · refine ⟨5, (nI c, 0, 0, 0, nI (ds_nt b m 0), 1, ds_nw b a m, b, ds_no b m 0 o, ds_nl b m z 0 l), (nI c, 0, 0, 0, b, o', l'), ds_rel0 hc, fun post h => ?_, fun post h => ?_⟩
        · refine br_f g1 (br_t g2 (br_t g3 (nm_r (nI_add a d) (hX _ (nI c) 0 0 0 0 0 0 o l (by omega) ?_))))
          have hn : ds_nd a m 0 = 1 := if_pos hd
          rw [hn]
          exact br_t hr (br_t hle (br_f (by decide) h))
        · unfold wpY_scanField
          dsimp only
          refine ds_yok g1 g2 g3 (br_t rfl (nm_r (nI_add a d) ?_))
          exact hY _ (nI c) 0 0 0 o' l' (br_t hr (br_t hle (ds_dB he T hd (br_f (by decide) h))))
      · have hv : vp_in (nI a) 512 := vp_in_nI (by omega) (by omega)
        have hcl : (nI a).toNatClampNeg = a := nI_clamp (by omega)
        have hnt : ds_nt b m 0 ≤ 1 := ds_ntB
        refine ⟨0, (nI c, nI (ds_nt b m 0), 0, b a, nI (ds_nt b m 0), 0, ds_nw b a m, b, ds_no b m 0 o, ds_nl b m z 0 l), (nI c, nI (ds_nt b m 0), 0, b a, b, ds_no b m 0 o', ds_nl b m z 0 l'), ds_rel hc (by omega) (ds_AgO ds_Ag0) (ds_AgL ds_Ag0), fun post h => ?_, fun post h => ?_⟩
        · refine br_f g1 (br_t g2 (br_t g3 (nm_r (nI_add a d) (hX _ (nI c) 0 0 0 0 0 0 o l (by omega) ?_))))
          have hn : ds_nd a m 0 = 0 := if_neg hd
          rw [hn]
          exact br_t hr (br_t hle (br_t rfl ⟨hv, nm_r (congrArg b hcl) h⟩))
        · unfold wpY_scanField
          dsimp only
          refine ds_yok g1 g2 g3 (br_t rfl (nm_r (nI_add a d) ?_))
          refine hY _ (nI c) 0 0 0 o' l' (br_t hr (br_t hle (ds_dT he T (by omega) (ds_dE (by omega) (by omega) (br_t rfl ?_)))))
          exact ds_cT (t := 0) he (by omega) T (ds_cX (by omega) (by omega) ⟨hv, nm_r (congrArg b hcl) h⟩)
    · have hle : ¬ nI (a + d) ≤ nI (z + 1) := nI_ge (by omega) (by omega)
      refine ⟨7, (nI c, 0, 0, 0, nI (ds_nt b m 0), ds_nd a m 0, ds_nw b a m, b, ds_no b m 0 o, ds_nl b m z 0 l), (nI c, 0, 0, 0, b, o', l'), ds_rel0 hc, fun post h => ?_, fun post h => ?_⟩
      · exact br_f g1 (br_t g2 (br_t g3 (nm_r (nI_add a d) (hX _ (nI c) 0 0 0 0 0 0 o l (by omega) (br_t hr (br_f hle h))))))
      · unfold wpY_scanField
        dsimp only
        refine ds_yok g1 g2 g3 (br_t rfl (nm_r (nI_add a d) ?_))
        exact hY _ (nI c) 0 0 0 o' l' (br_t hr (br_f hle h))
end
section
/-! ===== scanMethod ===== -/
/-- 'this' -/
def ds_in (x3 : Int32) : Nat := if x3 = 0 then 0 else 1
section
variable {c e off p tot t m z : Nat} {x3 dp wd : Int32} {b o l o' l' o2 l2 : Nat → Int32}
/-- X behind a good return type -/
theorem ds_x208 {post : Int32 → SX → Prop} {tc : Int32} (hp : p + 1 < 512) (ht : tot ≤ 2000)
    (h0 : tot + ds_in x3 ≤ 255 → post 0 (nI c, tc, nI (tot + ds_in x3), b (p + 1), tc, dp, wd, b, o, l))
    (h6 : 255 < tot + ds_in x3 → post 6 (nI c, 0, 0, 0, tc, dp, wd, b, o, l)) :
    (x3 = 0 → wX_scanMethod_208 post (nI tot) (nI (p + 1)) (nI c) 0 0 0 tc dp wd b o l) ∧ (¬ x3 = 0 → ∀ y : Int32, y = nI tot + 1 → wX_scanMethod_208 post y (nI (p + 1)) (nI c) 0 0 0 tc dp wd b o l) := by
  have hc : (nI (p + 1)).toNatClampNeg = p + 1 := nI_clamp (by omega)
  have hv : vp_in (nI (p + 1)) 512 := vp_in_nI (by omega) (by omega)
  by_cases hx : x3 = 0
  · have hi : ds_in x3 = 0 := if_pos hx
    rw [hi, Nat.add_zero] at h0 h6
    exact br_t hx (pk_le tot 255 (fun h => ⟨hv, nm_r (congrArg b hc) (h0 h)⟩) (fun h => h6 h))
  · have hi : ds_in x3 = 1 := if_neg hx
    rw [hi] at h0 h6
    exact br_f hx (nm_r (nI_1 tot) (pk_le (tot + 1) 255 (fun h => ⟨hv, nm_r (congrArg b hc) (h0 h)⟩) (fun h => h6 h)))
/-- Y behind a good return type and its second look -/
theorem ds_y171 {post : Int32 → SY → Prop} (hp : p + 1 < 512) (ht : tot ≤ 2000)
    (h0 : tot + ds_in x3 ≤ 255 → ∀ pc : SY → Prop, pc (nI c, nI t, 0, 0, b, o2, l2) → wpY_collect pc (nI c, 0, 0, 0, b, o', l') (nI off) (nI e))
    (hp0 : tot + ds_in x3 ≤ 255 → post 0 (nI c, nI t, nI (tot + ds_in x3), b (p + 1), b, o2, l2))
    (h6 : 255 < tot + ds_in x3 → post 6 (nI c, 0, 0, 0, b, o', l')) :
    (x3 = 0 → wY_scanMethod_171 post (nI off) (nI e) (nI (p + 1)) 0 (nI tot) (nI c) 0 0 0 b o' l') ∧ (¬ x3 = 0 → wY_scanMethod_171 post (nI off) (nI e) (nI (p + 1)) 1 (nI tot) (nI c) 0 0 0 b o' l') := by
  have hc : (nI (p + 1)).toNatClampNeg = p + 1 := nI_clamp (by omega)
  have hv : vp_in (nI (p + 1)) 512 := vp_in_nI (by omega) (by omega)
  by_cases hx : x3 = 0
  · have hi : ds_in x3 = 0 := if_pos hx
    rw [hi] at h0 hp0 h6
    refine br_t hx (nm_r (nI_add tot 0) (pk_le (tot + 0) 255 (fun h => ?_) (fun h => h6 h)))
    exact h0 h _ ⟨hv, nm_r (congrArg b hc) (hp0 h)⟩
  · have hi : ds_in x3 = 1 := if_neg hx
    rw [hi] at h0 hp0 h6
    refine br_f hx (nm_r (nI_add tot 1) (pk_le (tot + 1) 255 (fun h => ?_) (fun h => h6 h)))
    exact h0 h _ ⟨hv, nm_r (congrArg b hc) (hp0 h)⟩
theorem ds_wcall {post : Int32 → Prop} {sz : Int32} (h : ds_WD post (off + 1) p sz 0 0 0 b o' l' 0 0 (off + 1)) : wpY_width post (sz, 0, 0, 0, b, o', l') (nI off + 1) (nI (p + 1) - 1) := by
  rw [nI_1 off, nI_pred p]
  exact h
/-- at the closing bracket -/
theorem ds_ret (k : Nat) (hc : c ≤ 512) (he : e ≤ c) (hp : p < e) (hb : b p = 41) (ho : off + 1 ≤ p) (ht : t ≤ p) (htot : tot ≤ 2 * p)
    (D : ds_DI e off (nI c) b o' l' dp p) (W : ds_WI off (nI c) b o' l' tot p) (C : ds_CI e off (nI c) b o' l' p t o2 l2) (Ao : ds_Ag t o o2) (Al : ds_Ag t l l2) :
    ∃ (r : Int32) (u' : SX) (v' : SY), i_Rel k u' v' ∧ (∀ post : Int32 → SX → Prop, post r u' → ∃ n, wX_scanMethod_88 post x3 (nI e) n (nI tot) (nI p) (nI c) 0 0 0 (nI t) dp wd b o l) ∧ (∀ post : Int32 → SY → Prop, post r v' → ∃ n, wY_scanMethod_55 post (nI off) x3 (nI e) (nI c) 0 0 0 b o' l' n (nI p)) := by
  have he5 : e ≤ 512 := by omega
  have hcl : b (nI p).toNatClampNeg = 41 := (congrArg b (nI_clamp (by omega))).trans hb
  have hv : vp_in (nI p) 512 := vp_in_nI (by omega) (by omega)
  have hlt : nI p < nI e := nI_lt hp (by omega)
  have hnle : ¬ nI e ≤ nI p := nI_ge hp (by omega)
  have D1 := ds_DI1 he5 hp (by rw [hb]; decide) D
  have C1 := ds_CI1 he5 hp (by rw [hb]; decide) C
  rcases ds_rt (b := b) (e := e) (p := p + 1) (ret := 1) he5 (by omega) with ⟨x, hx, hX, hY⟩ | ⟨m, z, T, hX, hY⟩
  · obtain ⟨dp', wd', hX⟩ := hX (nI c) 0 0 0 (nI t) dp wd o l
    refine ⟨-x, (nI c, 0, 0, 0, nI t, dp', wd', b, o, l), (nI c, 0, 0, 0, b, o', l'), ds_rel0 hc, fun post h => ⟨0 + 1, ?_⟩, fun post h => ⟨0 + 1, ?_⟩⟩
    · exact br_t hlt ⟨hv, br_t hcl (nm_r (nI_1 p) (hX _ (br_f hx h)))⟩
    · exact br_f hnle ⟨hv, br_t hcl (br_t hlt (nm_r (nI_1 p) (hY _ (nI c) 0 0 0 o' l' (br_f hx h))))⟩
  · have T' := T
    obtain ⟨t1, t2, t3, _, _, _, _⟩ := T'
    have hr : 0 ≤ nI (z + 1) := nI_pos' (by omega)
    have D2 := ds_DIT he5 T D1
    have C2 := ds_CIT he5 (by omega) T C1
    have hnt : ds_nt b m t ≤ t + 1 := ds_ntB
    by_cases hz : z + 1 = e
    · have hle : nI e ≤ nI (z + 1) := nI_le (by omega) (by omega)
      rcases D2 with ⟨hd, D2⟩ | ⟨hd, D2⟩
      · have dd : ∀ pd : Int32 → Prop, pd 0 → wpY_deep pd (nI c, 0, 0, 0, b, o', l') (nI off) (nI e) := fun pd h => D2 pd (ds_dE (by omega) (by omega) h)
        have ww : ∀ pw : Int32 → Prop, pw (nI tot) → wpY_width pw (nI c, 0, 0, 0, b, o', l') (nI off + 1) (nI (p + 1) - 1) := fun pw h => ds_wcall (W pw p (by omega) (Nat.le_refl p) (ds_wE (Nat.le_refl p) (by omega) h))
        have cc : ∀ pc : SY → Prop, pc (nI c, nI (ds_nt b m t), 0, 0, b, ds_no b m t o2, ds_nl b m z t l2) → wpY_collect pc (nI c, 0, 0, 0, b, o', l') (nI off) (nI e) := fun pc h => C2 pc (ds_cX (by omega) (by omega) h)
        by_cases hs : tot + ds_in x3 ≤ 255
        · refine ⟨0, (nI c, nI (ds_nt b m t), nI (tot + ds_in x3), b (p + 1), nI (ds_nt b m t), 0, ds_nw b (p + 1) m, b, ds_no b m t o, ds_nl b m z t l), (nI c, nI (ds_nt b m t), nI (tot + ds_in x3), b (p + 1), b, ds_no b m t o2, ds_nl b m z t l2), ds_rel hc (by omega) (ds_AgO Ao) (ds_AgL Al), fun post h => ⟨0 + 1, ?_⟩, fun post h => ⟨0 + 1, ?_⟩⟩
          · refine br_t hlt ⟨hv, br_t hcl (nm_r (nI_1 p) (hX _ (nI c) 0 0 0 t dp wd o l (by omega) ?_))⟩
            rw [hd]
            exact br_t hr (br_t hle (br_t rfl (ds_x208 (by omega) (by omega) (fun _ => h) (fun z => absurd hs (by omega)))))
          · refine br_f hnle ⟨hv, br_t hcl (br_t hlt (nm_r (nI_1 p) (hY _ (nI c) 0 0 0 o' l' (br_t hr (br_t hle (dd _ (br_t rfl (ww _ ?_))))))))⟩
            exact ds_y171 (by omega) (by omega) (fun _ => cc) (fun _ => h) (fun z => absurd hs (by omega))
        · refine ⟨6, (nI c, 0, 0, 0, nI (ds_nt b m t), 0, ds_nw b (p + 1) m, b, ds_no b m t o, ds_nl b m z t l), (nI c, 0, 0, 0, b, o', l'), ds_rel0 hc, fun post h => ⟨0 + 1, ?_⟩, fun post h => ⟨0 + 1, ?_⟩⟩
          · refine br_t hlt ⟨hv, br_t hcl (nm_r (nI_1 p) (hX _ (nI c) 0 0 0 t dp wd o l (by omega) ?_))⟩
            rw [hd]
            exact br_t hr (br_t hle (br_t rfl (ds_x208 (by omega) (by omega) (fun z => absurd z hs) (fun _ => h))))
          · refine br_f hnle ⟨hv, br_t hcl (br_t hlt (nm_r (nI_1 p) (hY _ (nI c) 0 0 0 o' l' (br_t hr (br_t hle (dd _ (br_t rfl (ww _ ?_))))))))⟩
            exact ds_y171 (by omega) (by omega) (fun _ => cc) (fun z => absurd z hs) (fun _ => h)
      · have dd : ∀ pd : Int32 → Prop, pd 1 → wpY_deep pd (nI c, 0, 0, 0, b, o', l') (nI off) (nI e) := fun pd h => D2 pd h
        refine ⟨5, (nI c, 0, 0, 0, nI (ds_nt b m t), 1, ds_nw b (p + 1) m, b, ds_no b m t o, ds_nl b m z t l), (nI c, 0, 0, 0, b, o', l'), ds_rel0 hc, fun post h => ⟨0 + 1, ?_⟩, fun post h => ⟨0 + 1, ?_⟩⟩
        · refine br_t hlt ⟨hv, br_t hcl (nm_r (nI_1 p) (hX _ (nI c) 0 0 0 t dp wd o l (by omega) ?_))⟩
          rw [hd]
          exact br_t hr (br_t hle (br_f (by decide) h))
        · refine br_f hnle ⟨hv, br_t hcl (br_t hlt (nm_r (nI_1 p) (hY _ (nI c) 0 0 0 o' l' (br_t hr (br_t hle (dd _ ?_))))))⟩
          exact br_f (by decide) h
    · have hle : ¬ nI e ≤ nI (z + 1) := nI_ge (by omega) (by omega)
      refine ⟨7, (nI c, 0, 0, 0, nI (ds_nt b m t), ds_nd (p + 1) m dp, ds_nw b (p + 1) m, b, ds_no b m t o, ds_nl b m z t l), (nI c, 0, 0, 0, b, o', l'), ds_rel0 hc, fun post h => ⟨0 + 1, ?_⟩, fun post h => ⟨0 + 1, ?_⟩⟩
      · exact br_t hlt ⟨hv, br_t hcl (nm_r (nI_1 p) (hX _ (nI c) 0 0 0 t dp wd o l (by omega) (br_t hr (br_f hle h))))⟩
      · exact br_f hnle ⟨hv, br_t hcl (br_t hlt (nm_r (nI_1 p) (hY _ (nI c) 0 0 0 o' l' (br_t hr (br_f hle h)))))⟩
end
theorem ds_wsw (b : Nat → Int32) (p m : Nat) : (ds_nw b p m = 0 ∧ ds_ws b p m = 1) ∨ (ds_nw b p m = 1 ∧ ds_ws b p m = 2) := by
  by_cases h : m = p ∧ (b m = 74 ∨ b m = 68)
  · exact Or.inr ⟨if_pos h, if_pos h⟩
  · exact Or.inl ⟨if_neg h, if_neg h⟩
/-- the loop over the arguments -/
theorem ds_loop (k : Nat) {c e off : Nat} {x3 : Int32} {b o' l' : Nat → Int32} (hc : c ≤ 512) (he : e ≤ c) : ∀ (w p tot t : Nat) (dp wd : Int32) (o l o2 l2 : Nat → Int32), e - p < w → p ≤ e → off + 1 ≤ p → t ≤ p → tot ≤ 2 * p → (p = off + 1 ∨ b (p - 1) ≠ 91) →
    ds_DI e off (nI c) b o' l' dp p → ds_WI off (nI c) b o' l' tot p → ds_CI e off (nI c) b o' l' p t o2 l2 → ds_Ag t o o2 → ds_Ag t l l2 →
    ∃ (r : Int32) (u' : SX) (v' : SY), i_Rel k u' v' ∧ (∀ post : Int32 → SX → Prop, post r u' → ∃ n, wX_scanMethod_88 post x3 (nI e) n (nI tot) (nI p) (nI c) 0 0 0 (nI t) dp wd b o l) ∧ (∀ post : Int32 → SY → Prop, post r v' → ∃ n, wY_scanMethod_55 post (nI off) x3 (nI e) (nI c) 0 0 0 b o' l' n (nI p)) := by
  intro w
  induction w with
  | zero => intro p tot t dp wd o l o2 l2 hw; exact absurd hw (Nat.not_lt_zero _)
  | succ w ih =>
    intro p tot t dp wd o l o2 l2 hw hpe ho ht htot hpr D W C Ao Al
    have he5 : e ≤ 512 := by omega
    by_cases hp : p = e
    · have h1 : nI e ≤ nI p := nI_le (by omega) (by omega)
      have h2 : ¬ nI p < nI e := nI_nlt (by omega) (by omega)
      exact ⟨2, (nI c, 0, 0, 0, nI t, dp, wd, b, o, l), (nI c, 0, 0, 0, b, o', l'), ds_rel0 hc, fun post h => ⟨0 + 1, br_f h2 h⟩, fun post h => ⟨0 + 1, br_t h1 (br_f h2 h)⟩⟩
    · have hp' : p < e := by omega
      by_cases hb : b p = 41
      · exact ds_ret k hc he hp' hb ho ht htot D W C Ao Al
      · have hcl : ¬ b (nI p).toNatClampNeg = 41 := fun y => hb ((congrArg b (nI_clamp (by omega))).symm.trans y)
        have hv : vp_in (nI p) 512 := vp_in_nI (by omega) (by omega)
        have hlt : nI p < nI e := nI_lt hp' (by omega)
        have hnle : ¬ nI e ≤ nI p := nI_ge hp' (by omega)
        rcases ds_rt (b := b) (e := e) (p := p) (ret := 0) he5 (by omega) with ⟨x, hx, hX, hY⟩ | ⟨m, z, T, hX, hY⟩
        · obtain ⟨dp', wd', hX⟩ := hX (nI c) 0 0 0 (nI t) dp wd o l
          refine ⟨-x, (nI c, 0, 0, 0, nI t, dp', wd', b, o, l), (nI c, 0, 0, 0, b, o', l'), ds_rel0 hc, fun post h => ⟨0 + 1, ?_⟩, fun post h => ⟨0 + 1, ?_⟩⟩
          · exact br_t hlt ⟨hv, br_f hcl (hX _ (br_f hx h))⟩
          · exact br_f hnle ⟨hv, br_f hcl (hY _ (nI c) 0 0 0 o' l' (br_f hx h))⟩
        · have T' := T
          obtain ⟨t1, t2, t3, _, _, _, _⟩ := T'
          have hr : 0 ≤ nI (z + 1) := nI_pos' (by omega)
          have hnt : ds_nt b m t ≤ t + 1 := ds_ntB
          have hws := ds_wsw b p m
          have hws2 : ds_ws b p m ≤ 2 := by omega
          obtain ⟨r, u', v', R, iX, iY⟩ := ih (z + 1) (tot + ds_ws b p m) (ds_nt b m t) (ds_nd p m dp) (ds_nw b p m) (ds_no b m t o) (ds_nl b m z t l) (ds_no b m t o2) (ds_nl b m z t l2) (by omega) (by omega) (by omega) (by omega) (by omega) (Or.inr (ds_Ty91 T t2 (Nat.le_refl z)))
            (ds_DIT he5 T D) (ds_WIT he5 T ho hpr W) (ds_CIT he5 (by omega) T C) (ds_AgO Ao) (ds_AgL Al)
          refine ⟨r, u', v', R, fun post h => ?_, fun post h => ?_⟩
          · obtain ⟨n, g⟩ := iX post h
            refine ⟨n + 1, br_t hlt ⟨hv, br_f hcl (hX _ (nI c) 0 0 0 t dp wd o l (by omega) (br_t hr ?_))⟩⟩
            rcases hws with ⟨w1, w2⟩ | ⟨w1, w2⟩
            · rw [w2] at g
              exact br_t w1 (nm_r (nI_1 tot) g)
            · rw [w2] at g
              exact br_f (by rw [w1]; decide) (nm_r (nI_add tot 2) g)
          · obtain ⟨n, g⟩ := iY post h
            exact ⟨n + 1, br_f hnle ⟨hv, br_f hcl (hY _ (nI c) 0 0 0 o' l' (br_t hr g))⟩⟩
theorem ds_sm {k c a d : Nat} (hc : c ≤ 512) (had : a + d ≤ c) (g1 : ¬ nI a < 0) (g2 : 0 ≤ nI d) (g3 : ((nI a).toInt64 + (nI d).toInt64) ≤ (nI c).toInt64) {cn sl kd tc dp wd cn' sl' kd' x3 : Int32} {b o l o' l' : Nat → Int32} :
    ∃ (r : Int32) (u' : SX) (v' : SY), i_Rel k u' v' ∧ (∀ post : Int32 → SX → Prop, post r u' → wpX_scanMethod post (nI c, cn, sl, kd, tc, dp, wd, b, o, l) (nI a) (nI d) x3) ∧ (∀ post : Int32 → SY → Prop, post r v' → wpY_scanMethod post (nI c, cn', sl', kd', b, o', l') (nI a) (nI d) x3) := by
  have he : a + d ≤ 512 := by omega
  by_cases hd : d = 0
  · have hd' : nI d = 0 := by rw [hd]; exact nI_0
    refine ⟨2, (nI c, 0, 0, 0, 0, 0, 0, b, o, l), (nI c, 0, 0, 0, b, o', l'), ds_rel0 hc, fun post h => ?_, fun post h => ?_⟩
    · exact br_f g1 (br_t g2 (br_t g3 (nm_e (br_t hd' h))))
    · unfold wpY_scanMethod
      dsimp only
      refine ds_yok g1 g2 g3 (br_t rfl (nm_e ?_))
      exact br_t hd' h
  · have hd' : ¬ nI d = 0 := nI_ne0 (by omega) (by omega)
    have hv : vp_in (nI a) 512 := vp_in_nI (by omega) (by omega)
    have hcl : (nI a).toNatClampNeg = a := nI_clamp (by omega)
    by_cases hb : b a = 40
    · have hb' : b (nI a).toNatClampNeg = 40 := (congrArg b hcl).trans hb
      obtain ⟨r, u', v', R, iX, iY⟩ := ds_loop k (x3 := x3) (b := b) (o' := o') (l' := l') (e := a + d) (off := a) hc had (a + d + 1) (a + 1) 0 0 0 0 o l o' l' (by omega) (by omega) (by omega) (by omega) (by omega) (Or.inl rfl)
        (ds_DI1 he (by omega) (by rw [hb]; decide) ds_DI0) (fun _ _ _ _ h => h) (ds_CI1 he (by omega) (by rw [hb]; decide) (fun _ h => h)) ds_Ag0 ds_Ag0
      refine ⟨r, u', v', R, fun post h => ?_, fun post h => ?_⟩
      · exact br_f g1 (br_t g2 (br_t g3 (nm_r (nI_add a d) (br_f hd' ⟨hv, br_t hb' (nm_r (nI_1 a) (iX post h))⟩))))
      · unfold wpY_scanMethod
        dsimp only
        refine ds_yok g1 g2 g3 (br_t rfl (nm_r (nI_add a d) ?_))
        exact br_f hd' ⟨hv, br_t hb' (nm_r (nI_1 a) (iY post h))⟩
    · have hb' : ¬ b (nI a).toNatClampNeg = 40 := fun y => hb ((congrArg b hcl).symm.trans y)
      refine ⟨3, (nI c, 0, 0, 0, 0, 0, 0, b, o, l), (nI c, 0, 0, 0, b, o', l'), ds_rel0 hc, fun post h => ?_, fun post h => ?_⟩
      · exact br_f g1 (br_t g2 (br_t g3 (nm_e (br_f hd' ⟨hv, br_f hb' h⟩))))
      · unfold wpY_scanMethod
        dsimp only
        refine ds_yok g1 g2 g3 (br_t rfl (nm_e ?_))
        exact br_f hd' ⟨hv, br_f hb' h⟩
end
section
/-! ===== fill, and what is owed ===== -/
def ds_by (x : Int64) (i : Nat) : Int32 := vp_nar .byte ((((x.toUInt64 >>> ((56 - (8 * (nI i &&& 7))).toInt64.toUInt64 &&& Int64.toUInt64 63)).toInt64).toInt32).toInt8.toInt32)
theorem ds_fl {a d : Nat} (had : a + d ≤ 512) (x : Int64) : ∀ (w i : Nat) (b : Nat → Int32), i + w = d → ∃ b' : Nat → Int32,
    (∀ (post : Int32 → SX → Prop) (cap cn sl kd tc dp wd : Int32) (o l : Nat → Int32), post (nI d) (cap, cn, sl, kd, tc, dp, wd, b', o, l) → wX_fill_29 post (nI a) (nI d) x cap cn sl kd tc dp wd (w + 1) (nI i) b o l) ∧
    (∀ (post : Int32 → SY → Prop) (sz cn sl kd : Int32) (o l : Nat → Int32), post (nI d) (sz, cn, sl, kd, b', o, l) → wY_fill_14 post (nI a) (nI d) x sz cn sl kd (w + 1) (nI i) b o l) := by
  intro w
  induction w with
  | zero =>
    intro i b hi
    have h : nI d ≤ nI i := nI_le (by omega) (by omega)
    exact ⟨b, fun post cap cn sl kd tc dp wd o l hp => br_t h hp, fun post sz cn sl kd o l hp => br_t h hp⟩
  | succ w ih =>
    intro i b hi
    have h : ¬ nI d ≤ nI i := nI_ge (by omega) (by omega)
    have hcl : (nI a + nI i).toNatClampNeg = a + i := by rw [nI_add]; exact nI_clamp (by omega)
    have hv : vp_in (nI a + nI i) 512 := by rw [nI_add]; exact vp_in_nI (by omega) (by omega)
    obtain ⟨b', hX, hY⟩ := ih (i + 1) (upd b (a + i) (ds_by x i)) (by omega)
    refine ⟨b', ?_, ?_⟩
    · intro post cap cn sl kd tc dp wd o l hp
      exact br_f h ⟨hv, nm_r (e' := upd b (a + i) (ds_by x i)) (by rw [hcl]; rfl) (nm_r (nI_1 i) (hX post cap cn sl kd tc dp wd o l hp))⟩
    · intro post sz cn sl kd o l hp
      exact br_f h ⟨hv, nm_r (e' := upd b (a + i) (ds_by x i)) (by rw [hcl, ← ds_byte x i (by omega)]; rfl) (nm_r (nI_1 i) (hY post sz cn sl kd o l hp))⟩
theorem i_up {k : Nat} {u : SX} {v : SY} (h : i_Rel k u v) : i_Rel (k + 5) u v := h
theorem ds_i0 {c : Nat} (hc : c ≤ 512) : i_Rel 1 (nI c, 0, 0, 0, 0, 0, 0, (fun _ => 0), (fun _ => 0), (fun _ => 0)) (nI c, 0, 0, 0, (fun _ => 0), (fun _ => 0), (fun _ => 0)) := ds_rel0 hc
theorem i_vc0 (k0 : Int32) : wpX_init (fun u => wpY_init (fun v => i_Rel 1 u v) k0) k0 := by
  by_cases h8 : 8 ≤ k0
  · by_cases h5 : k0 ≤ 512
    · have hn : ¬ k0 < 0 := by
        intro h
        rw [Int32.lt_iff_toInt_lt] at h
        rw [Int32.le_iff_toInt_le] at h8
        have e0 : (0 : Int32).toInt = 0 := by decide
        have e8 : (8 : Int32).toInt = 8 := by decide
        omega
      obtain ⟨j, hj, rfl⟩ := nI_of2 (M := 512) (n := 512) (by decide) hn h5
      exact br_t h8 (br_t h5 (br_t h8 (br_t h5 (ds_i0 hj))))
    · exact br_t h8 (br_f h5 (br_t h8 (br_f h5 (ds_i0 (c := 512) (Nat.le_refl _)))))
  · exact br_f h8 (br_t (by decide) (br_f h8 (br_t (by decide) (ds_i0 (c := 8) (by omega)))))
theorem i_vc_fill {k : Nat} {u : SX} {v : SY} (I : i_Rel k u v) (hk : k + 5 ≤ 2561) (v1 : Int32) (v2 : Int32) (a2 : Int64) : wpX_fill (fun r u' => wpY_fill (fun r' v' => r' = r ∧ i_Rel (k + 5) u' v') v v1 v2 a2) u v1 v2 a2 := by
  obtain ⟨c, t, sl, kd, tc, dp, wd, b, o, l, o', l', hc, ht, ho, hl, rfl, rfl⟩ := I
  rcases ds_grd v1 v2 hc with hb | ⟨a, d, had, rfl, rfl, g1, g2, g3⟩
  · refine ds_xbad hb ?_
    unfold wpY_fill
    dsimp only
    refine ds_ybad hb (br_f (by decide) ?_)
    exact ⟨rfl, ds_rel hc ht ho hl⟩
  · obtain ⟨b', hX, hY⟩ := ds_fl (a := a) (d := d) (by omega) a2 d 0 b (by omega)
    refine br_f g1 (br_t g2 (br_t g3 ⟨d + 1, hX _ (nI c) (nI t) sl kd tc dp wd o l ?_⟩))
    unfold wpY_fill
    dsimp only
    refine ds_yok g1 g2 g3 (br_t rfl ⟨d + 1, hY _ (nI c) (nI t) sl kd o' l' ?_⟩)
    exact ⟨rfl, ds_rel hc ht ho hl⟩
theorem i_vc_scanField {k : Nat} {u : SX} {v : SY} (I : i_Rel k u v) (hk : k + 5 ≤ 2561) (v1 : Int32) (v2 : Int32) : wpX_scanField (fun r u' => wpY_scanField (fun r' v' => r' = r ∧ i_Rel (k + 5) u' v') v v1 v2) u v1 v2 := by
  obtain ⟨c, t, sl, kd, tc, dp, wd, b, o, l, o', l', hc, ht, ho, hl, rfl, rfl⟩ := I
  rcases ds_grd v1 v2 hc with hb | ⟨a, d, had, rfl, rfl, g1, g2, g3⟩
  · refine ds_xbad hb ?_
    unfold wpY_scanField
    dsimp only
    refine ds_ybad hb (br_f (by decide) ?_)
    exact ⟨rfl, ds_rel0 hc⟩
  · obtain ⟨r, u', v', R, hX, hY⟩ := ds_sf (k := k + 5) hc had g1 g2 g3 (cn := nI t) (sl := sl) (kd := kd) (tc := tc) (dp := dp) (wd := wd) (cn' := nI t) (sl' := sl) (kd' := kd) (b := b) (o := o) (l := l) (o' := o') (l' := l')
    exact hX _ (hY _ ⟨rfl, R⟩)
theorem i_vc_scanMethod {k : Nat} {u : SX} {v : SY} (I : i_Rel k u v) (hk : k + 5 ≤ 2561) (v1 : Int32) (v2 : Int32) (v3 : Int32) : wpX_scanMethod (fun r u' => wpY_scanMethod (fun r' v' => r' = r ∧ i_Rel (k + 5) u' v') v v1 v2 (lw_bz v3)) u v1 v2 (lw_bz v3) := by
  obtain ⟨c, t, sl, kd, tc, dp, wd, b, o, l, o', l', hc, ht, ho, hl, rfl, rfl⟩ := I
  rcases ds_grd v1 v2 hc with hb | ⟨a, d, had, rfl, rfl, g1, g2, g3⟩
  · refine ds_xbad hb ?_
    unfold wpY_scanMethod
    dsimp only
    refine ds_ybad hb (br_f (by decide) ?_)
    exact ⟨rfl, ds_rel0 hc⟩
  · obtain ⟨r, u', v', R, hX, hY⟩ := ds_sm (k := k + 5) hc had g1 g2 g3 (cn := nI t) (sl := sl) (kd := kd) (tc := tc) (dp := dp) (wd := wd) (cn' := nI t) (sl' := sl) (kd' := kd) (x3 := lw_bz v3) (b := b) (o := o) (l := l) (o' := o') (l' := l')
    exact hX _ (hY _ ⟨rfl, R⟩)
theorem i_vc_classCount {k : Nat} {u : SX} {v : SY} (I : i_Rel k u v) (hk : k + 5 ≤ 2561) : wpX_classCount (fun r => wpY_classCount (fun r' => r' = r ∧ i_Rel (k + 5) u v) v) u := by
  have J : i_Rel (k + 5) u v := I
  obtain ⟨c, t, sl, kd, tc, dp, wd, b, o, l, o', l', hc, ht, ho, hl, rfl, rfl⟩ := I
  exact And.intro rfl J
theorem i_vc_classSpan {k : Nat} {u : SX} {v : SY} (I : i_Rel k u v) (hk : k + 5 ≤ 2561) (v1 : Int32) : wpX_classSpan (fun r => wpY_classSpan (fun r' => r' = r ∧ i_Rel (k + 5) u v) v v1) u v1 := by
  have J : i_Rel (k + 5) u v := I
  obtain ⟨c, t, sl, kd, tc, dp, wd, b, o, l, o', l', hc, ht, ho, hl, rfl, rfl⟩ := I
  by_cases h0 : v1 < 0
  · exact br_t h0 (br_t h0 ⟨rfl, J⟩)
  · by_cases h1 : nI t ≤ v1
    · exact br_f h0 (br_t h1 (br_f h0 (br_t h1 ⟨rfl, J⟩)))
    · by_cases h2 : v1 < 16
      · obtain ⟨j, hj, rfl⟩ := nI_of h0
        have hjt : j < t := Nat.lt_of_not_le (fun z => h1 (nI_le z hj))
        have hj16 : j < 16 := by
          have h3 : nI j < nI 16 := h2
          exact (nI_ltI hj (by omega)).mp h3
        have hv : vp_in (nI j) 16 := vp_in_nI hj16 (by omega)
        have hcl : (nI j).toNatClampNeg = j := nI_clamp hj
        have e1 : o (nI j).toNatClampNeg = o' (nI j).toNatClampNeg := by rw [hcl]; exact ho j hjt hj16
        have e2 : l (nI j).toNatClampNeg = l' (nI j).toNatClampNeg := by rw [hcl]; exact hl j hjt hj16
        refine br_f h0 (br_f h1 (br_t h2 ⟨hv, hv, br_f h0 (br_f h1 (br_t h2 ⟨hv, hv, ?_, J⟩))⟩))
        rw [e1, e2]
      · exact br_f h0 (br_f h1 (br_f h2 (br_f h0 (br_f h1 (br_f h2 ⟨rfl, J⟩)))))
theorem i_vc_argSlots {k : Nat} {u : SX} {v : SY} (I : i_Rel k u v) (hk : k + 5 ≤ 2561) : wpX_argSlots (fun r => wpY_argSlots (fun r' => r' = r ∧ i_Rel (k + 5) u v) v) u := by
  have J : i_Rel (k + 5) u v := I
  obtain ⟨c, t, sl, kd, tc, dp, wd, b, o, l, o', l', hc, ht, ho, hl, rfl, rfl⟩ := I
  exact And.intro rfl J
theorem i_vc_returnKind {k : Nat} {u : SX} {v : SY} (I : i_Rel k u v) (hk : k + 5 ≤ 2561) : wpX_returnKind (fun r => wpY_returnKind (fun r' => r' = r ∧ i_Rel (k + 5) u v) v) u := by
  have J : i_Rel (k + 5) u v := I
  obtain ⟨c, t, sl, kd, tc, dp, wd, b, o, l, o', l', hc, ht, ho, hl, rfl, rfl⟩ := I
  exact And.intro rfl J
end
