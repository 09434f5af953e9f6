section
theorem pk_us {f : Nat → Int32} {k : Nat} {x : Int32} : upd f k x k = x := if_pos rfl
theorem pk_un {f : Nat → Int32} {k j : Nat} {x : Int32} (h : j ≠ k) : upd f k x j = f j := if_neg h
theorem pk_sub {a b : Nat} (h : b ≤ a) : nI a - nI b = nI (a - b) := by
  obtain ⟨c, rfl⟩ : ∃ c, a = c + b := ⟨a - b, by omega⟩
  rw [← nI_add, Int32.add_sub_cancel, Nat.add_sub_cancel]
theorem pk_mul (a b : Nat) : nI a * nI b = nI (a * b) := (Int32.ofNat_mul a b).symm
theorem pk_ix (x : Int32) {n : Nat} (hn : n < 2 ^ 31) : x < 0 ∨ nI n ≤ x ∨ ∃ j : Nat, j < n ∧ x = nI j := by
  by_cases h : x < 0
  · exact Or.inl h
  · obtain ⟨j, hj, rfl⟩ := nI_of h
    by_cases h2 : j < n
    · exact Or.inr (Or.inr ⟨j, h2, rfl⟩)
    · exact Or.inr (Or.inl (nI_le (by omega) hj))
theorem pk_le {x y : Int32} {A B : Prop} (a b : Nat) (f : a ≤ b → A) (g : b < a → B) (hx : x = nI a := by rfl) (hy : y = nI b := by rfl) (ha : a < 2 ^ 31 := by omega) (hb : b < 2 ^ 31 := by omega) : (x ≤ y → A) ∧ (¬ x ≤ y → B) := by
  subst hx hy
  rw [nI_leI ha hb]
  exact ⟨f, fun z => g (by omega)⟩
theorem pk_lt {x y : Int32} {A B : Prop} (a b : Nat) (f : a < b → A) (g : b ≤ a → B) (hx : x = nI a := by rfl) (hy : y = nI b := by rfl) (ha : a < 2 ^ 31 := by omega) (hb : b < 2 ^ 31 := by omega) : (x < y → A) ∧ (¬ x < y → B) := by
  subst hx hy
  rw [nI_ltI ha hb]
  exact ⟨f, fun z => g (by omega)⟩
theorem pk_eq {x y : Int32} {A B : Prop} (a b : Nat) (f : a = b → A) (g : a ≠ b → B) (hx : x = nI a := by rfl) (hy : y = nI b := by rfl) (ha : a < 2 ^ 31 := by omega) (hb : b < 2 ^ 31 := by omega) : (x = y → A) ∧ (¬ x = y → B) := by
  subst hx hy
  rw [nI_eq ha hb]
  exact ⟨f, g⟩
theorem pk_in {x : Int32} (n N : Nat) (h : n < N) (hx : x = nI n := by rfl) (hN : N < 2 ^ 31 := by omega) : vp_in x N := by
  subst hx
  exact vp_in_nI h hN
theorem pk_cl {x : Int32} (n : Nat) (hx : x = nI n := by rfl) (h : n < 2 ^ 31 := by omega) : x.toNatClampNeg = n := by
  subst hx
  exact nI_clamp h
theorem pk_tn {n : Nat} (h : n < 2 ^ 32) : (nI n).toBitVec.toNat = n := Nat.mod_eq_of_lt h
theorem pk_and (x : Int32) {m : Int32} (k : Nat) (hm : m.toBitVec.toNat = 2 ^ k - 1) : x &&& m = nI (x.toBitVec.toNat % 2 ^ k) := by
  apply Int32.toBitVec_inj.mp
  apply BitVec.eq_of_toNat_eq
  rw [Int32.toBitVec_and, BitVec.toNat_and, hm, Nat.and_two_pow_sub_one_eq_mod]
  show _ = (BitVec.ofNat 32 _).toNat
  rw [BitVec.toNat_ofNat]
  exact (Nat.mod_eq_of_lt (Nat.lt_of_le_of_lt (Nat.mod_le _ _) x.toBitVec.isLt)).symm
theorem pk_andN {n : Nat} (h : n < 2 ^ 32) {m : Int32} (k : Nat) (hm : m.toBitVec.toNat = 2 ^ k - 1) : nI n &&& m = nI (n % 2 ^ k) := by
  rw [pk_and _ k hm, pk_tn h]
theorem pk_shr (a s : Int32) (k : Nat) (hs : (s.toBitVec.smod 32).toNat = k) : (a >>> s).toInt = a.toInt >>> k := by
  show (a.toBitVec.sshiftRight (s.toBitVec.smod 32).toNat).toInt = _
  rw [hs, BitVec.toInt_sshiftRight]
  rfl
theorem pk_shrN {n : Nat} (h : n < 2 ^ 31) (s : Int32) (k : Nat) (hs : (s.toBitVec.smod 32).toNat = k) : nI n >>> s = nI (n / 2 ^ k) := by
  apply Int32.toInt_inj.mp
  have h2 : n / 2 ^ k ≤ n := Nat.div_le_self _ _
  rw [pk_shr _ _ k hs, nI_toInt h, nI_toInt (by omega), Int.shiftRight_eq_div_pow]
  rfl
theorem pk_ushr (x s : Int32) (k : Nat) (hs : ((s.toUInt32 &&& Int32.toUInt32 31).toBitVec % 32).toNat = k) : (x.toUInt32 >>> (s.toUInt32 &&& Int32.toUInt32 31)).toInt32.toBitVec.toNat = x.toBitVec.toNat / 2 ^ k := by
  have e : (x.toUInt32 >>> (s.toUInt32 &&& Int32.toUInt32 31)).toInt32.toBitVec = x.toBitVec >>> k := by
    rw [← hs]
    exact UInt32.toBitVec_shiftRight _ _
  rw [e, BitVec.toNat_ushiftRight, Nat.shiftRight_eq_div_pow]
theorem pk_ushrN {n : Nat} (hn : n < 2 ^ 32) (s : Int32) (k : Nat) (hs : ((s.toUInt32 &&& Int32.toUInt32 31).toBitVec % 32).toNat = k) : ((nI n).toUInt32 >>> (s.toUInt32 &&& Int32.toUInt32 31)).toInt32 = nI (n / 2 ^ k) := by
  apply Int32.toBitVec_inj.mp
  apply BitVec.eq_of_toNat_eq
  rw [pk_ushr _ s k hs, pk_tn hn, pk_tn (Nat.lt_of_le_of_lt (Nat.div_le_self _ _) hn)]
def bt (x : Int32) (i : Nat) : Bool := x.toBitVec.getLsbD i
theorem b_ext {x y : Int32} (h : ∀ i, i < 32 → bt x i = bt y i) : x = y := Int32.toBitVec_inj.mp (BitVec.eq_of_getLsbD_eq (fun i hi => h i hi))
theorem b_or (x y : Int32) (i : Nat) : bt (x ||| y) i = (bt x i || bt y i) := by unfold bt; rw [Int32.toBitVec_or, BitVec.getLsbD_or]
theorem b_and (x y : Int32) (i : Nat) : bt (x &&& y) i = (bt x i && bt y i) := by unfold bt; rw [Int32.toBitVec_and, BitVec.getLsbD_and]
theorem b_xor (x y : Int32) (i : Nat) : bt (x ^^^ y) i = (bt x i ^^ bt y i) := by unfold bt; rw [Int32.toBitVec_xor, BitVec.getLsbD_xor]
theorem b_big {x : Int32} {i : Nat} (h : 32 ≤ i) : bt x i = false := BitVec.getLsbD_of_ge _ _ h
theorem b_255 (i : Nat) : bt 255 i = decide (i < 8) := by
  rcases Nat.lt_or_ge i 32 with h | h
  · exact (by decide +kernel : ∀ i, i < 32 → bt 255 i = decide (i < 8)) i h
  · rw [b_big h, decide_eq_false (by omega)]
theorem b_m1 : ∀ i, i < 32 → bt (-1) i = true := by decide +kernel
theorem b_0 (i : Nat) : bt 0 i = false := BitVec.getLsbD_zero
theorem s_l : ∀ n, n < 32 → ((nI n &&& 31).toBitVec.smod 32).toNat = n := by decide +kernel
theorem s_u : ∀ n, n < 32 → (((nI n).toUInt32 &&& Int32.toUInt32 31).toBitVec % 32).toNat = n := by decide +kernel
theorem nx_and (a b : Nat) : nI a &&& nI b = nI (a &&& b) := by
  apply Int32.toBitVec_inj.1
  show BitVec.ofNat 32 a &&& BitVec.ofNat 32 b = BitVec.ofNat 32 (a &&& b)
  apply BitVec.eq_of_getLsbD_eq
  intro i hi
  simp [hi]
theorem nx_cnt : ∀ j : Fin 32, (UInt32.ofNat j.val &&& Int32.toUInt32 31).toNat % 32 = j.val := by decide +kernel
theorem nx_ush {k j : Nat} (hk : k < 65536) (hj : j < 32) : ((nI k).toUInt32 >>> ((nI j).toUInt32 &&& Int32.toUInt32 31)).toInt32 = nI (k >>> j) := by
  have hs : k >>> j ≤ k := by
    rw [Nat.shiftRight_eq_div_pow]
    exact Nat.div_le_self _ _
  have e2 : UInt32.ofNat k >>> (UInt32.ofNat j &&& Int32.toUInt32 31) = UInt32.ofNat (k >>> j) := by
    apply UInt32.toNat_inj.1
    have h1 : (UInt32.ofNat k).toNat = k := Nat.mod_eq_of_lt (by omega)
    have h2 : (UInt32.ofNat (k >>> j)).toNat = k >>> j := Nat.mod_eq_of_lt (by omega)
    rw [UInt32.toNat_shiftRight, nx_cnt ⟨j, hj⟩, h1, h2]
  show (UInt32.ofNat k >>> (UInt32.ofNat j &&& Int32.toUInt32 31)).toInt32 = _
  rw [e2]
  rfl
theorem nx_bit {k j : Nat} (hk : k < 65536) (hj : j < 16) : (((nI k).toUInt32 >>> ((nI j).toUInt32 &&& Int32.toUInt32 31)).toInt32 &&& 1) = 0 ↔ k.testBit j = false := by
  rw [nx_ush hk (by omega)]
  show nI (k >>> j) &&& nI 1 = 0 ↔ _
  rw [nx_and, Nat.and_one_is_mod, ← nI_0, nI_eq (by omega) (by omega), Nat.testBit_eq_decide_div_mod_eq, Nat.shiftRight_eq_div_pow, decide_eq_false_iff_not]
  generalize k / 2 ^ j = z
  omega
end
section
/-! ===== sets of 8 machines as naturals below 256; 70 chains ===== -/
/-- a is part of b -/
def qd_sb (a b : Nat) : Bool := (a &&& b) == a
/-- a and b have a machine in common -/
def qd_mt (a b : Nat) : Bool := (a &&& b) != 0
/-- t holds a set of the list -/
def qd_up (l : List Nat) (t : Nat) : Bool := l.any (fun x => qd_sb x t)
/-- a family by its least sets -/
def qd_fam (l : List Nat) : Prop := (∀ x, x ∈ l → x < 256) ∧ l.Pairwise (fun a b => ¬ qd_sb a b = true ∧ ¬ qd_sb b a = true)
theorem qd_sb_iff {a b : Nat} : qd_sb a b = true ↔ ∀ i, a.testBit i = true → b.testBit i = true := by
  unfold qd_sb
  rw [beq_iff_eq]
  constructor
  · intro h i hi
    have e : (a &&& b).testBit i = a.testBit i := by rw [h]
    rw [Nat.testBit_and, hi, Bool.true_and] at e
    exact e
  · intro h
    apply Nat.eq_of_testBit_eq
    intro i
    rw [Nat.testBit_and]
    cases e : a.testBit i
    · rfl
    · rw [h i e]; rfl
theorem qd_sb_refl (a : Nat) : qd_sb a a = true := qd_sb_iff.mpr (fun _ h => h)
theorem qd_sb_trans {a b c : Nat} (h : qd_sb a b = true) (h' : qd_sb b c = true) : qd_sb a c = true := qd_sb_iff.mpr (fun i z => qd_sb_iff.mp h' i (qd_sb_iff.mp h i z))
theorem qd_sb_anti {a b : Nat} (h : qd_sb a b = true) (h' : qd_sb b a = true) : a = b := by
  apply Nat.eq_of_testBit_eq
  intro i
  have h1 := qd_sb_iff.mp h i
  have h2 := qd_sb_iff.mp h' i
  cases ea : a.testBit i <;> cases eb : b.testBit i
  · rfl
  · rw [h2 eb] at ea; cases ea
  · rw [h1 ea] at eb; cases eb
  · rfl
theorem qd_mt_iff {a b : Nat} : qd_mt a b = true ↔ ∃ i, a.testBit i = true ∧ b.testBit i = true := by
  unfold qd_mt
  rw [bne_iff_ne]
  constructor
  · intro h
    obtain ⟨i, hi⟩ := Nat.exists_testBit_of_ne_zero h
    rw [Nat.testBit_and, Bool.and_eq_true] at hi
    exact ⟨i, hi⟩
  · rintro ⟨i, h1, h2⟩ e
    have z : (a &&& b).testBit i = (0 : Nat).testBit i := by rw [e]
    rw [Nat.testBit_and, h1, h2, Nat.zero_testBit] at z
    cases z
theorem qd_mt_comm (a b : Nat) : qd_mt a b = qd_mt b a := by unfold qd_mt; rw [Nat.and_comm]
theorem qd_mt_mono {a b c : Nat} (h : qd_sb a b = true) (m : qd_mt a c = true) : qd_mt b c = true := by
  obtain ⟨i, h1, h2⟩ := qd_mt_iff.mp m
  exact qd_mt_iff.mpr ⟨i, qd_sb_iff.mp h i h1, h2⟩
theorem qd_up_iff {l : List Nat} {t : Nat} : qd_up l t = true ↔ ∃ x, x ∈ l ∧ qd_sb x t = true := by
  unfold qd_up
  exact List.any_eq_true
theorem qd_bit8 {a i : Nat} (ha : a < 256) (h : a.testBit i = true) : i < 8 := by
  rcases Nat.lt_or_ge i 8 with z | z
  · exact z
  · have e : a.testBit i = false := Nat.testBit_lt_two_pow (Nat.lt_of_lt_of_le (show a < 2 ^ 8 from ha) (Nat.pow_le_pow_right (by decide) z))
    rw [e] at h; cases h
theorem qd_and256 {a : Nat} (b : Nat) (h : a < 256) : a &&& b < 256 := Nat.lt_of_le_of_lt Nat.and_le_left h
theorem qd_or256 {a b : Nat} (h : a < 256) (h' : b < 256) : a ||| b < 256 := Nat.or_lt_two_pow (n := 8) h h'
theorem qd_xor256 {b : Nat} (h' : b < 256) : 255 ^^^ b < 256 := Nat.xor_lt_two_pow (n := 8) (by decide) h'
theorem qd_255 (i : Nat) : (255 : Nat).testBit i = decide (i < 8) := Nat.testBit_two_pow_sub_one 8 i
/-! ===== Sperner: at most 70 ===== -/
def qd_chains : List (List Nat) := [[0, 1, 3, 7, 15, 31, 63, 127, 255],
  [2, 6, 14, 30, 62, 126, 254],
  [4, 5, 13, 29, 61, 125, 253],
  [8, 9, 11, 27, 59, 123, 251],
  [16, 17, 19, 23, 55, 119, 247],
  [32, 33, 35, 39, 47, 111, 239],
  [64, 65, 67, 71, 79, 95, 223],
  [128, 129, 131, 135, 143, 159, 191],
  [10, 26, 58, 122, 250],
  [12, 28, 60, 124, 252],
  [18, 22, 54, 118, 246],
  [20, 21, 53, 117, 245],
  [24, 25, 57, 121, 249],
  [34, 38, 46, 110, 238],
  [36, 37, 45, 109, 237],
  [40, 41, 43, 107, 235],
  [48, 49, 51, 115, 243],
  [66, 70, 78, 94, 222],
  [68, 69, 77, 93, 221],
  [72, 73, 75, 91, 219],
  [80, 81, 83, 87, 215],
  [96, 97, 99, 103, 231],
  [130, 134, 142, 158, 190],
  [132, 133, 141, 157, 189],
  [136, 137, 139, 155, 187],
  [144, 145, 147, 151, 183],
  [160, 161, 163, 167, 175],
  [192, 193, 195, 199, 207],
  [42, 106, 234],
  [44, 108, 236],
  [50, 114, 242],
  [52, 116, 244],
  [56, 120, 248],
  [74, 90, 218],
  [76, 92, 220],
  [82, 86, 214],
  [84, 85, 213],
  [88, 89, 217],
  [98, 102, 230],
  [100, 101, 229],
  [104, 105, 233],
  [112, 113, 241],
  [138, 154, 186],
  [140, 156, 188],
  [146, 150, 182],
  [148, 149, 181],
  [152, 153, 185],
  [162, 166, 174],
  [164, 165, 173],
  [168, 169, 171],
  [176, 177, 179],
  [194, 198, 206],
  [196, 197, 205],
  [200, 201, 203],
  [208, 209, 211],
  [224, 225, 227],
  [170],
  [172],
  [178],
  [180],
  [184],
  [202],
  [204],
  [210],
  [212],
  [216],
  [226],
  [228],
  [232],
  [240]]
def qd_ch (s : Nat) : Nat := qd_chains.findIdx (fun c => c.contains s)
theorem qd_ch_lt : ∀ s, s < 256 → qd_ch s < 70 := by decide +kernel
theorem qd_ch_len : qd_chains.length = 70 := by decide +kernel
theorem qd_ch_all : (qd_chains.all (fun c => c.all (fun a => c.all (fun b => qd_sb a b || qd_sb b a)))) = true := by decide +kernel
theorem qd_ch_cmp {s t : Nat} (hs : s < 256) (ht : t < 256) (e : qd_ch s = qd_ch t) : qd_sb s t = true ∨ qd_sb t s = true := by
  have ls : qd_ch s < qd_chains.length := by rw [qd_ch_len]; exact qd_ch_lt s hs
  have lt : qd_ch t < qd_chains.length := by rw [qd_ch_len]; exact qd_ch_lt t ht
  have ms : (qd_chains[qd_ch s]'ls).contains s = true := List.findIdx_getElem (p := fun c : List Nat => c.contains s) (w := ls)
  have mt : (qd_chains[qd_ch t]'lt).contains t = true := List.findIdx_getElem (p := fun c : List Nat => c.contains t) (w := lt)
  have e2 : qd_chains[qd_ch t]'lt = qd_chains[qd_ch s]'ls := by simp only [e]
  rw [e2] at mt
  have ha := List.all_eq_true.mp qd_ch_all _ (List.getElem_mem ls)
  have hb := List.all_eq_true.mp ha s (by simpa using ms)
  have hc := List.all_eq_true.mp hb t (by simpa using mt)
  rw [Bool.or_eq_true] at hc
  exact hc
theorem qd_70 {l : List Nat} (h : qd_fam l) : l.length ≤ 70 := by
  have nd : (l.map qd_ch).Nodup := by
    rw [List.nodup_iff_pairwise_ne, List.pairwise_map]
    refine List.Pairwise.imp_of_mem ?_ h.2
    intro a b ha hb hab e
    rcases qd_ch_cmp (h.1 a ha) (h.1 b hb) e with z | z
    · exact hab.1 z
    · exact hab.2 z
  have hl := nd.length_le_of_subset (l₂ := List.range 70) (by
    intro x hx
    obtain ⟨a, ha, rfl⟩ := List.mem_map.mp hx
    exact List.mem_range.mpr (qd_ch_lt a (h.1 a ha)))
  rw [List.length_map, List.length_range] at hl
  exact hl
theorem qd_fam_nodup {l : List Nat} (h : qd_fam l) : l.Nodup := by
  rw [List.nodup_iff_pairwise_ne]
  refine List.Pairwise.imp ?_ h.2
  intro a b hab e
  subst e
  exact hab.1 (qd_sb_refl _)
theorem qd_fam_eq {l : List Nat} (h : qd_fam l) {x y : Nat} (hx : x ∈ l) (hy : y ∈ l) (hs : qd_sb x y = true) : x = y := by
  obtain ⟨h1, h2⟩ := h
  clear h1
  induction l with
  | nil => cases hx
  | cons a t ih =>
    rw [List.pairwise_cons] at h2
    rcases List.mem_cons.mp hx with rfl | hx'
    · rcases List.mem_cons.mp hy with rfl | hy'
      · rfl
      · exact absurd hs (h2.1 y hy').1
    · rcases List.mem_cons.mp hy with rfl | hy'
      · exact absurd hs (h2.1 x hx').2
      · exact ih hx' hy' h2.2
theorem qd_fam_nil : qd_fam [] := ⟨fun _ h => (nomatch h), List.Pairwise.nil⟩
end
section
/-! ===== gathering least sets ===== -/
def qd_ga (l : List Nat) (s : Nat) : List Nat := if qd_up l s = true then l else l.filter (fun x => !qd_sb s x) ++ [s]
def qd_gl (acc : List Nat) (ss : List Nat) : List Nat := ss.foldl qd_ga acc
theorem qd_ga_fam {l : List Nat} {s : Nat} (h : qd_fam l) (hs : s < 256) : qd_fam (qd_ga l s) := by
  unfold qd_ga
  split
  · exact h
  · rename_i hu
    refine ⟨fun x hx => ?_, ?_⟩
    · rcases List.mem_append.mp hx with z | z
      · exact h.1 x (List.mem_filter.mp z).1
      · rw [List.mem_singleton.mp z]; exact hs
    · refine List.pairwise_append.mpr ⟨h.2.filter _, List.pairwise_singleton _ _, ?_⟩
      intro a ha b hb
      rw [List.mem_singleton.mp hb]
      have hm := List.mem_filter.mp ha
      refine ⟨fun z => hu (qd_up_iff.mpr ⟨a, hm.1, z⟩), fun z => ?_⟩
      have hm2 := hm.2
      rw [z] at hm2
      cases hm2
theorem qd_ga_up (l : List Nat) (s t : Nat) : qd_up (qd_ga l s) t = (qd_up l t || qd_sb s t) := by
  rw [Bool.eq_iff_iff, Bool.or_eq_true]
  unfold qd_ga
  split
  · rename_i hu
    constructor
    · intro z; exact Or.inl z
    · rintro (z | z)
      · exact z
      · obtain ⟨x, hx, hxs⟩ := qd_up_iff.mp hu
        exact qd_up_iff.mpr ⟨x, hx, qd_sb_trans hxs z⟩
  · constructor
    · intro z
      obtain ⟨x, hx, hxt⟩ := qd_up_iff.mp z
      rcases List.mem_append.mp hx with y | y
      · exact Or.inl (qd_up_iff.mpr ⟨x, (List.mem_filter.mp y).1, hxt⟩)
      · rw [List.mem_singleton.mp y] at hxt; exact Or.inr hxt
    · intro z
      by_cases hst : qd_sb s t = true
      · exact qd_up_iff.mpr ⟨s, List.mem_append.mpr (Or.inr (List.mem_singleton.mpr rfl)), hst⟩
      · rcases z with z | z
        · obtain ⟨x, hx, hxt⟩ := qd_up_iff.mp z
          refine qd_up_iff.mpr ⟨x, List.mem_append.mpr (Or.inl (List.mem_filter.mpr ⟨hx, ?_⟩)), hxt⟩
          cases e : qd_sb s x
          · rfl
          · exact absurd (qd_sb_trans e hxt) hst
        · exact absurd z hst
theorem qd_gl_fam : ∀ (ss acc : List Nat), (∀ s, s ∈ ss → s < 256) → qd_fam acc → qd_fam (qd_gl acc ss)
  | [], _, _, h => h
  | s :: ss, acc, hs, h => qd_gl_fam ss (qd_ga acc s) (fun x hx => hs x (List.mem_cons_of_mem _ hx)) (qd_ga_fam h (hs s (List.mem_cons_self ..)))
theorem qd_gl_up : ∀ (ss acc : List Nat) (t : Nat), qd_up (qd_gl acc ss) t = (qd_up acc t || qd_up ss t)
  | [], acc, t => by rw [show qd_gl acc [] = acc from rfl, show qd_up [] t = false from rfl, Bool.or_false]
  | s :: ss, acc, t => by
    rw [show qd_gl acc (s :: ss) = qd_gl (qd_ga acc s) ss from rfl, qd_gl_up ss, qd_ga_up, show qd_up (s :: ss) t = (qd_sb s t || qd_up ss t) from rfl, Bool.or_assoc]
theorem qd_gl_app (acc a b : List Nat) : qd_gl acc (a ++ b) = qd_gl (qd_gl acc a) b := List.foldl_append
theorem qd_up_app (a b : List Nat) (t : Nat) : qd_up (a ++ b) t = (qd_up a t || qd_up b t) := List.any_append
/-! ===== unions ===== -/
def qd_un (la lb : List Nat) : List Nat := la.flatMap (fun a => lb.map (fun b => a ||| b))
theorem qd_sb_or {a b t : Nat} : qd_sb (a ||| b) t = (qd_sb a t && qd_sb b t) := by
  rw [Bool.eq_iff_iff, Bool.and_eq_true, qd_sb_iff, qd_sb_iff, qd_sb_iff]
  constructor
  · intro h
    exact ⟨fun i z => h i (by rw [Nat.testBit_or, z]; rfl), fun i z => h i (by rw [Nat.testBit_or, z, Bool.or_true])⟩
  · rintro ⟨h1, h2⟩ i z
    rw [Nat.testBit_or, Bool.or_eq_true] at z
    rcases z with z | z
    · exact h1 i z
    · exact h2 i z
theorem qd_un_up (la lb : List Nat) (t : Nat) : qd_up (qd_un la lb) t = (qd_up la t && qd_up lb t) := by
  rw [Bool.eq_iff_iff, Bool.and_eq_true, qd_up_iff, qd_up_iff, qd_up_iff]
  constructor
  · rintro ⟨x, hx, hxt⟩
    obtain ⟨a, ha, hm⟩ := List.mem_flatMap.mp hx
    obtain ⟨b, hb, rfl⟩ := List.mem_map.mp hm
    rw [qd_sb_or, Bool.and_eq_true] at hxt
    exact ⟨⟨a, ha, hxt.1⟩, b, hb, hxt.2⟩
  · rintro ⟨⟨a, ha, hat⟩, b, hb, hbt⟩
    exact ⟨a ||| b, List.mem_flatMap.mpr ⟨a, ha, List.mem_map.mpr ⟨b, hb, rfl⟩⟩, by rw [qd_sb_or, hat, hbt]; rfl⟩
theorem qd_un_256 {la lb : List Nat} (ha : ∀ x, x ∈ la → x < 256) (hb : ∀ x, x ∈ lb → x < 256) : ∀ x, x ∈ qd_un la lb → x < 256 := by
  intro x hx
  obtain ⟨a, h1, h2⟩ := List.mem_flatMap.mp hx
  obtain ⟨b, h3, rfl⟩ := List.mem_map.mp h2
  exact qd_or256 (ha a h1) (hb b h3)
/-! ===== the dual ===== -/
def qd_hr (s o : Nat) : Nat → Nat → List Nat
  | 0, _ => []
  | d + 1, i => (if o.testBit i = true then [s ||| 2 ^ i] else []) ++ qd_hr s o d (i + 1)
def qd_ht (s o : Nat) : List Nat := if qd_mt s o = true then [s] else qd_hr s o 8 0
theorem qd_hr_mem (s o x : Nat) : ∀ d i, x ∈ qd_hr s o d i ↔ ∃ m, i ≤ m ∧ m < i + d ∧ o.testBit m = true ∧ x = s ||| 2 ^ m
  | 0, i => by
    constructor
    · intro h; cases h
    · rintro ⟨m, h1, h2, _⟩; omega
  | d + 1, i => by
    rw [show qd_hr s o (d + 1) i = (if o.testBit i = true then [s ||| 2 ^ i] else []) ++ qd_hr s o d (i + 1) from rfl, List.mem_append, qd_hr_mem s o x d (i + 1)]
    constructor
    · rintro (h | ⟨m, h1, h2, h3, h4⟩)
      · by_cases hb : o.testBit i = true
        · rw [if_pos hb] at h
          exact ⟨i, by omega, by omega, hb, List.mem_singleton.mp h⟩
        · rw [if_neg hb] at h; cases h
      · exact ⟨m, by omega, by omega, h3, h4⟩
    · rintro ⟨m, h1, h2, h3, h4⟩
      rcases Nat.eq_or_lt_of_le h1 with z | z
      · subst z
        rw [if_pos h3]
        exact Or.inl (List.mem_singleton.mpr h4)
      · exact Or.inr ⟨m, by omega, by omega, h3, h4⟩
theorem qd_sb_pow (m t : Nat) : qd_sb (2 ^ m) t = t.testBit m := by
  rw [Bool.eq_iff_iff, qd_sb_iff]
  constructor
  · intro h; exact h m Nat.testBit_two_pow_self
  · intro h i z
    rw [Nat.testBit_two_pow, decide_eq_true_eq] at z
    rw [← z]; exact h
theorem qd_ht_up (s t : Nat) {o : Nat} (ho : o < 256) : qd_up (qd_ht s o) t = (qd_sb s t && qd_mt t o) := by
  rw [Bool.eq_iff_iff, Bool.and_eq_true]
  unfold qd_ht
  split
  · rename_i hm
    rw [qd_up_iff]
    constructor
    · rintro ⟨x, hx, hxt⟩
      rw [List.mem_singleton.mp hx] at hxt
      exact ⟨hxt, qd_mt_mono hxt hm⟩
    · rintro ⟨h, _⟩
      exact ⟨s, List.mem_singleton.mpr rfl, h⟩
  · rw [qd_up_iff]
    constructor
    · rintro ⟨x, hx, hxt⟩
      obtain ⟨m, _, _, h3, rfl⟩ := (qd_hr_mem s o x 8 0).mp hx
      rw [qd_sb_or, Bool.and_eq_true, qd_sb_pow] at hxt
      exact ⟨hxt.1, qd_mt_iff.mpr ⟨m, hxt.2, h3⟩⟩
    · rintro ⟨h, hm⟩
      obtain ⟨i, h1, h2⟩ := qd_mt_iff.mp hm
      exact ⟨s ||| 2 ^ i, (qd_hr_mem s o _ 8 0).mpr ⟨i, by omega, by have := qd_bit8 ho h2; omega, h2, rfl⟩, by rw [qd_sb_or, h, qd_sb_pow, h1]; rfl⟩
theorem qd_pow256 {m : Nat} (h : m < 8) : 2 ^ m < 256 := Nat.pow_lt_pow_right (a := 2) (m := m) (n := 8) (by decide) h
theorem qd_hr_256 {s : Nat} (o : Nat) (hs : s < 256) {d i : Nat} (h : i + d ≤ 8) : ∀ x, x ∈ qd_hr s o d i → x < 256 := by
  intro x hx
  obtain ⟨m, _, h2, _, rfl⟩ := (qd_hr_mem s o x d i).mp hx
  exact qd_or256 hs (qd_pow256 (by omega))
theorem qd_ht_256 {s : Nat} (o : Nat) (hs : s < 256) : ∀ x, x ∈ qd_ht s o → x < 256 := by
  intro x hx
  unfold qd_ht at hx
  split at hx
  · rw [List.mem_singleton.mp hx]; exact hs
  · exact qd_hr_256 o hs (by omega) x hx
def qd_ds (acc : List Nat) (m : Nat) : List Nat := qd_gl [] (acc.flatMap (fun s => qd_ht s m))
def qd_du (acc l : List Nat) : List Nat := l.foldl qd_ds acc
theorem qd_fl_256 {acc : List Nat} (h : ∀ x, x ∈ acc → x < 256) (m : Nat) : ∀ x, x ∈ acc.flatMap (fun s => qd_ht s m) → x < 256 := by
  intro x hx
  obtain ⟨a, h1, h2⟩ := List.mem_flatMap.mp hx
  exact qd_ht_256 m (h a h1) x h2
theorem qd_ds_fam {acc : List Nat} (h : qd_fam acc) (m : Nat) : qd_fam (qd_ds acc m) := qd_gl_fam _ _ (qd_fl_256 h.1 m) qd_fam_nil
theorem qd_ds_up (acc : List Nat) {m : Nat} (hm : m < 256) (t : Nat) : qd_up (qd_ds acc m) t = (qd_up acc t && qd_mt t m) := by
  unfold qd_ds
  rw [qd_gl_up, show qd_up [] t = false from rfl, Bool.false_or, Bool.eq_iff_iff, Bool.and_eq_true, qd_up_iff, qd_up_iff]
  constructor
  · rintro ⟨x, hx, hxt⟩
    obtain ⟨a, h1, h2⟩ := List.mem_flatMap.mp hx
    have hu : qd_up (qd_ht a m) t = true := qd_up_iff.mpr ⟨x, h2, hxt⟩
    rw [qd_ht_up a t hm, Bool.and_eq_true] at hu
    exact ⟨⟨a, h1, hu.1⟩, hu.2⟩
  · rintro ⟨⟨a, h1, h2⟩, h3⟩
    have hu : qd_up (qd_ht a m) t = true := by rw [qd_ht_up a t hm, h2, h3]; rfl
    obtain ⟨x, hx, hxt⟩ := qd_up_iff.mp hu
    exact ⟨x, List.mem_flatMap.mpr ⟨a, h1, hx⟩, hxt⟩
theorem qd_du_fam : ∀ (l acc : List Nat), qd_fam acc → qd_fam (qd_du acc l)
  | [], _, h => h
  | m :: l, acc, h => qd_du_fam l (qd_ds acc m) (qd_ds_fam h m)
theorem qd_du_up : ∀ (l acc : List Nat) (t : Nat), (∀ x, x ∈ l → x < 256) → qd_up (qd_du acc l) t = (qd_up acc t && l.all (fun m => qd_mt t m))
  | [], acc, t, _ => by rw [show qd_du acc [] = acc from rfl, List.all_nil, Bool.and_true]
  | m :: l, acc, t, h => by
    rw [show qd_du acc (m :: l) = qd_du (qd_ds acc m) l from rfl, qd_du_up l _ t (fun x hx => h x (List.mem_cons_of_mem _ hx)), qd_ds_up acc (h m (List.mem_cons_self ..)), List.all_cons, Bool.and_assoc]
theorem qd_fam_0 : qd_fam [0] := ⟨fun x hx => by rw [List.mem_singleton.mp hx]; decide, List.pairwise_singleton _ _⟩
theorem qd_sb_0 (t : Nat) : qd_sb 0 t = true := qd_sb_iff.mpr (fun i h => by rw [Nat.zero_testBit] at h; cases h)
theorem qd_up_0 (t : Nat) : qd_up [0] t = true := qd_up_iff.mpr ⟨0, List.mem_singleton.mpr rfl, qd_sb_0 t⟩
end
section
/-! ===== given ===== -/
theorem qd_sb_gv {x q t : Nat} (hx : x < 256) : qd_sb (x &&& (255 ^^^ q)) t = qd_sb x (t ||| q) := by
  rw [Bool.eq_iff_iff, qd_sb_iff, qd_sb_iff]
  constructor
  · intro h i z
    have h8 := qd_bit8 hx z
    rw [Nat.testBit_or]
    cases eq : q.testBit i
    · rw [h i (by rw [Nat.testBit_and, Nat.testBit_xor, z, qd_255, eq, decide_eq_true h8]; rfl)]
      rfl
    · rw [Bool.or_true]
  · intro h i z
    rw [Nat.testBit_and, Nat.testBit_xor, qd_255, Bool.and_eq_true] at z
    have h8 := qd_bit8 hx z.1
    have h1 := h i z.1
    have h2 := z.2
    rw [decide_eq_true h8] at h2
    rw [Nat.testBit_or] at h1
    cases eq : q.testBit i
    · rw [eq, Bool.or_false] at h1; exact h1
    · rw [eq] at h2; cases h2
def qd_gv (l : List Nat) (q : Nat) : List Nat := l.map (fun x => x &&& (255 ^^^ q))
theorem qd_gv_up {l : List Nat} (hl : ∀ x, x ∈ l → x < 256) (q t : Nat) : qd_up (qd_gv l q) t = qd_up l (t ||| q) := by
  rw [Bool.eq_iff_iff, qd_up_iff, qd_up_iff]
  constructor
  · rintro ⟨x, hx, hxt⟩
    obtain ⟨a, ha, rfl⟩ := List.mem_map.mp hx
    rw [qd_sb_gv (hl a ha)] at hxt
    exact ⟨a, ha, hxt⟩
  · rintro ⟨a, ha, hat⟩
    exact ⟨_, List.mem_map.mpr ⟨a, ha, rfl⟩, by rw [qd_sb_gv (hl a ha)]; exact hat⟩
theorem qd_gv_256 {l : List Nat} (hl : ∀ x, x ∈ l → x < 256) (q : Nat) : ∀ x, x ∈ qd_gv l q → x < 256 := by
  intro x hx
  obtain ⟨a, ha, rfl⟩ := List.mem_map.mp hx
  exact qd_and256 _ (hl a ha)
/-! ===== the least sets of the family are the list ===== -/
theorem qd_least {l : List Nat} (h : qd_fam l) {s : Nat} : (qd_up l s = true ∧ ∀ x, x < 256 → x ≠ s → qd_sb x s = true → ¬ qd_up l x = true) ↔ s ∈ l := by
  constructor
  · rintro ⟨h1, h2⟩
    obtain ⟨x, hx, hxs⟩ := qd_up_iff.mp h1
    by_cases e : x = s
    · rw [← e]; exact hx
    · exact absurd (qd_up_iff.mpr ⟨x, hx, qd_sb_refl x⟩) (h2 x (h.1 x hx) e hxs)
  · intro hs
    refine ⟨qd_up_iff.mpr ⟨s, hs, qd_sb_refl s⟩, fun x _ hne hxs hu => ?_⟩
    obtain ⟨y, hy, hyx⟩ := qd_up_iff.mp hu
    have e := qd_fam_eq h hy hs (qd_sb_trans hyx hxs)
    subst e
    exact hne (qd_sb_anti hxs hyx)
/-! ===== how many of the list lie below ===== -/
def qd_cn (l : List Nat) (x : Nat) : Nat := l.countP (fun y => decide (y < x))
theorem qd_cn_0 (l : List Nat) : qd_cn l 0 = 0 := List.countP_eq_zero.mpr (fun a _ h => by simp at h)
theorem qd_cn_all {l : List Nat} {n : Nat} (h : ∀ x, x ∈ l → x < n) : qd_cn l n = l.length := List.countP_eq_length.mpr (fun a ha => decide_eq_true (h a ha))
theorem qd_cn_le (l : List Nat) (x : Nat) : qd_cn l x ≤ l.length := List.countP_le_length
theorem qd_cn_mono (l : List Nat) {a b : Nat} (h : a ≤ b) : qd_cn l a ≤ qd_cn l b := List.countP_mono_left (fun x _ hx => decide_eq_true (by have := of_decide_eq_true hx; omega))
theorem qd_cn_out {l : List Nat} {i : Nat} (h : i ∉ l) : qd_cn l (i + 1) = qd_cn l i := by
  refine List.countP_congr (fun x hx => ?_)
  rw [decide_eq_true_eq, decide_eq_true_eq]
  have hne : x ≠ i := fun e => h (e ▸ hx)
  omega
theorem qd_cn_in {l : List Nat} (nd : l.Nodup) {i : Nat} (h : i ∈ l) : qd_cn l (i + 1) = qd_cn l i + 1 := by
  induction l with
  | nil => cases h
  | cons a t ih =>
    rw [List.nodup_cons] at nd
    have e1 : qd_cn (a :: t) (i + 1) = qd_cn t (i + 1) + if decide (a < i + 1) = true then 1 else 0 := List.countP_cons
    have e2 : qd_cn (a :: t) i = qd_cn t i + if decide (a < i) = true then 1 else 0 := List.countP_cons
    rw [e1, e2]
    by_cases e : a = i
    · subst e
      rw [qd_cn_out nd.1, if_pos (decide_eq_true (by omega)), if_neg (by rw [decide_eq_true_eq]; omega)]
    · have ht : i ∈ t := by
        rcases List.mem_cons.mp h with z | z
        · exact absurd z.symm e
        · exact z
      rw [ih nd.2 ht]
      by_cases hl : a < i
      · rw [if_pos (decide_eq_true (by omega)), if_pos (decide_eq_true hl)]
      · rw [if_neg (by rw [decide_eq_true_eq]; omega), if_neg (by rw [decide_eq_true_eq]; omega)]
theorem qd_cn_inj {l : List Nat} (nd : l.Nodup) {x y : Nat} (hx : x ∈ l) (hy : y ∈ l) (e : qd_cn l x = qd_cn l y) : x = y := by
  rcases Nat.lt_trichotomy x y with z | z | z
  · have h1 := qd_cn_in nd hx
    have h2 := qd_cn_mono l (a := x + 1) (b := y) z
    omega
  · exact z
  · have h1 := qd_cn_in nd hy
    have h2 := qd_cn_mono l (a := y + 1) (b := x) z
    omega
/-! ===== ones ===== -/
def qd_onk (n : Nat) : Nat → Nat
  | 0 => 0
  | m + 1 => qd_onk n m + n / 2 ^ m % 2
def qd_on (n : Nat) : Nat := qd_onk n 8
theorem qd_onk_le (n : Nat) : ∀ m, qd_onk n m ≤ m
  | 0 => Nat.le_refl 0
  | m + 1 => by
    have h1 := qd_onk_le n m
    have h2 : n / 2 ^ m % 2 < 2 := Nat.mod_lt _ (by decide)
    show qd_onk n m + n / 2 ^ m % 2 ≤ m + 1
    omega
theorem qd_on_le (n : Nat) : qd_on n ≤ 8 := qd_onk_le n 8
theorem qd_bit_le {a b : Nat} (h : qd_sb a b = true) (m : Nat) : a / 2 ^ m % 2 ≤ b / 2 ^ m % 2 := by
  rw [← Nat.toNat_testBit, ← Nat.toNat_testBit]
  cases e : a.testBit m
  · exact Nat.zero_le _
  · rw [qd_sb_iff.mp h m e]; exact Nat.le_refl _
theorem qd_onk_mono {a b : Nat} (h : qd_sb a b = true) : ∀ m, qd_onk a m ≤ qd_onk b m
  | 0 => Nat.le_refl 0
  | m + 1 => Nat.add_le_add (qd_onk_mono h m) (qd_bit_le h m)
theorem qd_onk_eq {a b : Nat} (h : qd_sb a b = true) : ∀ m, qd_onk a m = qd_onk b m → ∀ i, i < m → a.testBit i = b.testBit i
  | 0, _, i, hi => absurd hi (Nat.not_lt_zero i)
  | m + 1, e, i, hi => by
    have h1 := qd_onk_mono h m
    have h2 := qd_bit_le h m
    have e' : qd_onk a m + a / 2 ^ m % 2 = qd_onk b m + b / 2 ^ m % 2 := e
    rcases Nat.lt_or_ge i m with z | z
    · exact qd_onk_eq h m (by omega) i z
    · obtain rfl : i = m := by omega
      have e3 : a / 2 ^ i % 2 = b / 2 ^ i % 2 := by omega
      rw [← Nat.toNat_testBit, ← Nat.toNat_testBit] at e3
      revert e3
      cases a.testBit i <;> cases b.testBit i <;> intro e3 <;> first | rfl | cases e3
theorem qd_on_eq {a b : Nat} (ha : a < 256) (hb : b < 256) (h : qd_sb a b = true) (e : qd_on a = qd_on b) : a = b := by
  refine qd_sb_anti h (qd_sb_iff.mpr (fun i z => ?_))
  rw [qd_onk_eq h 8 e i (qd_bit8 hb z)]
  exact z
theorem qd_down : ∀ u, u < 256 → qd_on u = 0 ∨ (qd_sb (u &&& (u - 1)) u = true ∧ qd_on (u &&& (u - 1)) + 1 = qd_on u) := by decide +kernel
theorem qd_pick (c : Nat) : ∀ k u, u < 256 → qd_on u = c + k → ∃ v, v < 256 ∧ qd_sb v u = true ∧ qd_on v = c
  | 0, u, hu, e => ⟨u, hu, qd_sb_refl u, e⟩
  | k + 1, u, hu, e => by
    rcases qd_down u hu with z | ⟨z1, z2⟩
    · omega
    · obtain ⟨v, h1, h2, h3⟩ := qd_pick c k (u &&& (u - 1)) (qd_and256 _ hu) (by omega)
      exact ⟨v, h1, qd_sb_trans h2 z1, h3⟩
def qd_al (q c n : Nat) : List Nat := (List.range n).filter (fun s => qd_sb s q && (qd_on s == c))
theorem qd_al_mem {q c n x : Nat} : x ∈ qd_al q c n ↔ x < n ∧ qd_sb x q = true ∧ qd_on x = c := by
  unfold qd_al
  rw [List.mem_filter, List.mem_range, Bool.and_eq_true, beq_iff_eq]
theorem qd_al_fam (q c : Nat) {n : Nat} (hn : n ≤ 256) : qd_fam (qd_al q c n) := by
  refine ⟨fun x hx => by have := (qd_al_mem.mp hx).1; omega, ?_⟩
  have nd : (qd_al q c n).Pairwise (fun a b => a ≠ b) := List.Pairwise.filter _ (List.nodup_iff_pairwise_ne.mp List.nodup_range)
  refine List.Pairwise.imp_of_mem ?_ nd
  intro a b ha hb hne
  obtain ⟨a1, a2, a3⟩ := qd_al_mem.mp ha
  obtain ⟨b1, b2, b3⟩ := qd_al_mem.mp hb
  exact ⟨fun z => hne (qd_on_eq (by omega) (by omega) z (by omega)), fun z => hne (qd_on_eq (by omega) (by omega) z (by omega)).symm⟩
theorem qd_al_succ_t {q c n : Nat} (h1 : qd_sb n q = true) (h2 : qd_on n = c) : qd_al q c (n + 1) = qd_al q c n ++ [n] := by
  unfold qd_al
  rw [List.range_succ, List.filter_append, List.filter_cons_of_pos (by rw [h1, h2]; simp), List.filter_nil]
theorem qd_al_succ_f {q c n : Nat} (h : ¬ (qd_sb n q = true ∧ qd_on n = c)) : qd_al q c (n + 1) = qd_al q c n := by
  unfold qd_al
  rw [List.range_succ, List.filter_append, List.filter_cons_of_neg (by rw [Bool.and_eq_true, beq_iff_eq]; exact h), List.filter_nil, List.append_nil]
theorem qd_sb_and {a b c : Nat} (h1 : qd_sb a b = true) (h2 : qd_sb a c = true) : qd_sb a (b &&& c) = true := qd_sb_iff.mpr (fun i z => by rw [Nat.testBit_and, qd_sb_iff.mp h1 i z, qd_sb_iff.mp h2 i z]; rfl)
theorem qd_sb_l (a b : Nat) : qd_sb (a &&& b) a = true := qd_sb_iff.mpr (fun i z => by rw [Nat.testBit_and, Bool.and_eq_true] at z; exact z.1)
theorem qd_sb_r (a b : Nat) : qd_sb (a &&& b) b = true := qd_sb_iff.mpr (fun i z => by rw [Nat.testBit_and, Bool.and_eq_true] at z; exact z.2)
theorem qd_al_up (q c : Nat) {t : Nat} (ht : t < 256) : qd_up (qd_al q c 256) t = decide (c ≤ qd_on (t &&& q)) := by
  rw [Bool.eq_iff_iff, qd_up_iff, decide_eq_true_eq]
  constructor
  · rintro ⟨x, hx, hxt⟩
    obtain ⟨_, h2, h3⟩ := qd_al_mem.mp hx
    rw [← h3]
    exact qd_onk_mono (qd_sb_and hxt h2) 8
  · intro h
    obtain ⟨v, h1, h2, h3⟩ := qd_pick c (qd_on (t &&& q) - c) (t &&& q) (qd_and256 _ ht) (by omega)
    exact ⟨v, qd_al_mem.mpr ⟨h1, qd_sb_trans h2 (qd_sb_r t q), h3⟩, qd_sb_trans h2 (qd_sb_l t q)⟩
/-! ===== all of a stretch; hits, meet, withstand ===== -/
def qd_fa (p : Nat → Bool) : Nat → Nat → Bool
  | 0, _ => true
  | d + 1, i => p i && qd_fa p d (i + 1)
theorem qd_fa_iff (p : Nat → Bool) : ∀ d i, qd_fa p d i = true ↔ ∀ x, i ≤ x → x < i + d → p x = true
  | 0, i => ⟨fun _ x h1 h2 => by omega, fun _ => rfl⟩
  | d + 1, i => by
    rw [show qd_fa p (d + 1) i = (p i && qd_fa p d (i + 1)) from rfl, Bool.and_eq_true, qd_fa_iff p d (i + 1)]
    constructor
    · rintro ⟨h1, h2⟩ x hx hx'
      rcases Nat.eq_or_lt_of_le hx with z | z
      · rw [← z]; exact h1
      · exact h2 x z (by omega)
    · intro h
      exact ⟨h i (by omega) (by omega), fun x h1 h2 => h x (by omega) (by omega)⟩
theorem qd_fa_t {p : Nat → Bool} {d i : Nat} (h : p i = true) : qd_fa p (d + 1) i = qd_fa p d (i + 1) := by rw [show qd_fa p (d + 1) i = (p i && qd_fa p d (i + 1)) from rfl, h, Bool.true_and]
theorem qd_fa_f {p : Nat → Bool} {d i : Nat} (h : p i = false) : qd_fa p (d + 1) i = false := by rw [show qd_fa p (d + 1) i = (p i && qd_fa p d (i + 1)) from rfl, h, Bool.false_and]
/-- the reference's hits: s meets every set that belongs -/
def qd_hit (P : Nat → Bool) (s : Nat) : Bool := qd_fa (fun x => !(P x) || qd_mt x s) 256 0
theorem qd_hit_iff {P : Nat → Bool} {s : Nat} : qd_hit P s = true ↔ ∀ x, x < 256 → P x = true → qd_mt x s = true := by
  unfold qd_hit
  rw [qd_fa_iff]
  constructor
  · intro h x hx hp
    have z := h x (by omega) (by omega)
    rw [hp] at z
    exact z
  · intro h x _ hx
    cases e : P x
    · rfl
    · rw [h x (by omega) e]; rfl
theorem qd_hit_up {l : List Nat} (hl : ∀ x, x ∈ l → x < 256) (s : Nat) : qd_hit (qd_up l) s = l.all (fun m => qd_mt s m) := by
  rw [Bool.eq_iff_iff, qd_hit_iff, List.all_eq_true]
  constructor
  · intro h x hx
    rw [qd_mt_comm]
    exact h x (hl x hx) (qd_up_iff.mpr ⟨x, hx, qd_sb_refl x⟩)
  · intro h x _ hu
    obtain ⟨y, hy, hyx⟩ := qd_up_iff.mp hu
    have z := h y hy
    rw [qd_mt_comm] at z
    exact qd_mt_mono hyx z
/-- the reference's isLeast -/
def qd_isl (P : Nat → Bool) (s : Nat) : Bool := P s && qd_fa (fun x => x == s || !(qd_sb x s) || !(P x)) 256 0
theorem qd_isl_up {l : List Nat} (h : qd_fam l) (s : Nat) : qd_isl (qd_up l) s = true ↔ s ∈ l := by
  rw [← qd_least h]
  unfold qd_isl
  rw [Bool.and_eq_true, qd_fa_iff]
  refine and_congr_right (fun _ => ⟨fun g x hx hne hs hu => ?_, fun g x _ hx => ?_⟩)
  · have z := g x (by omega) (by omega)
    rw [hs, hu] at z
    rw [Bool.or_eq_true, Bool.or_eq_true] at z
    rcases z with (z | z) | z
    · exact hne (beq_iff_eq.mp z)
    · cases z
    · cases z
  · by_cases e : x = s
    · rw [beq_iff_eq.mpr e]; rfl
    · cases e2 : qd_sb x s
      · simp
      · have z := g x (by omega) e e2
        cases e3 : qd_up l x
        · simp
        · exact absurd e3 z
/-- the component's and the reference's meet -/
def qd_mtx (la lb : List Nat) : Bool := la.all (fun a => lb.all (fun b => qd_mt a b))
def qd_mty (P Q : Nat → Bool) : Bool := qd_fa (fun s => !(P s) || qd_hit Q s) 256 0
theorem qd_mt_eq {la lb : List Nat} (ha : ∀ x, x ∈ la → x < 256) (hb : ∀ x, x ∈ lb → x < 256) : qd_mty (qd_up la) (qd_up lb) = qd_mtx la lb := by
  rw [Bool.eq_iff_iff]
  unfold qd_mty qd_mtx
  rw [qd_fa_iff, List.all_eq_true]
  constructor
  · intro h a h1
    have z := h a (by omega) (by have := ha a h1; omega)
    rw [qd_hit_up hb, qd_up_iff.mpr ⟨a, h1, qd_sb_refl a⟩] at z
    exact z
  · intro h x _ _
    cases e : qd_up la x
    · rfl
    · obtain ⟨a, h1, h2⟩ := qd_up_iff.mp e
      rw [qd_hit_up hb]
      show (false || _) = true
      rw [Bool.false_or, List.all_eq_true]
      intro b h3
      exact qd_mt_mono h2 (List.all_eq_true.mp (h a h1) b h3)
/-- withstand, both sides -/
def qd_wf (q : Nat → Bool) : Nat → Nat → Nat → Nat
  | 0, _, b => b
  | d + 1, i, b => qd_wf q d (i + 1) (if q i = true ∧ qd_on i < b then qd_on i else b)
theorem qd_wf_congr {q q' : Nat → Bool} : ∀ d i b, (∀ x, i ≤ x → x < i + d → q x = q' x) → qd_wf q d i b = qd_wf q' d i b
  | 0, _, _, _ => rfl
  | d + 1, i, b, h => by
    show qd_wf q d (i + 1) (if q i = true ∧ qd_on i < b then qd_on i else b) = qd_wf q' d (i + 1) (if q' i = true ∧ qd_on i < b then qd_on i else b)
    rw [h i (by omega) (by omega)]
    exact qd_wf_congr d (i + 1) _ (fun x h1 h2 => h x (by omega) (by omega))
theorem qd_wf_t {q : Nat → Bool} {d i b : Nat} (h : q i = true) (h' : qd_on i < b) : qd_wf q (d + 1) i b = qd_wf q d (i + 1) (qd_on i) := by
  show qd_wf q d (i + 1) (if q i = true ∧ qd_on i < b then qd_on i else b) = _
  rw [if_pos ⟨h, h'⟩]
theorem qd_wf_f {q : Nat → Bool} {d i b : Nat} (h : ¬ (q i = true ∧ qd_on i < b)) : qd_wf q (d + 1) i b = qd_wf q d (i + 1) b := by
  show qd_wf q d (i + 1) (if q i = true ∧ qd_on i < b then qd_on i else b) = _
  rw [if_neg h]
theorem qd_sb_co {x i : Nat} (hx : x < 256) : qd_sb x (255 &&& (255 ^^^ i)) = !qd_mt x i := by
  rw [Bool.eq_iff_iff, qd_sb_iff, Bool.not_eq_true', ← Bool.not_eq_true, qd_mt_iff]
  constructor
  · rintro h ⟨j, h1, h2⟩
    have z := h j h1
    rw [Nat.testBit_and, Nat.testBit_xor, h2, qd_255, decide_eq_true (qd_bit8 hx h1)] at z
    cases z
  · intro h j h1
    rw [Nat.testBit_and, Nat.testBit_xor, qd_255, decide_eq_true (qd_bit8 hx h1)]
    cases e : i.testBit j
    · rfl
    · exact absurd ⟨j, h1, e⟩ h
theorem qd_wq {l : List Nat} (hl : ∀ x, x ∈ l → x < 256) (i : Nat) : (!qd_up l (255 &&& (255 ^^^ i))) = l.all (fun x => qd_mt x i) := by
  rw [Bool.eq_iff_iff, Bool.not_eq_true', ← Bool.not_eq_true, qd_up_iff, List.all_eq_true]
  constructor
  · intro h x hx
    cases e : qd_mt x i
    · exact absurd ⟨x, hx, by rw [qd_sb_co (hl x hx), e]; rfl⟩ h
    · rfl
  · rintro h ⟨x, hx, z⟩
    rw [qd_sb_co (hl x hx), h x hx] at z
    cases z
end
section
/-! ===== ints and naturals ===== -/
def qd_lo (x : Int32) : Nat := x.toBitVec.toNat % 256
theorem qd_lo_lt (x : Int32) : qd_lo x < 256 := Nat.mod_lt _ (by decide)
theorem qd_lo_eq (x : Int32) : x &&& 255 = nI (qd_lo x) := pk_and x 8 (by decide)
theorem qd_lo_nI {n : Nat} (h : n < 256) : qd_lo (nI n) = n := by
  unfold qd_lo
  rw [pk_tn (by omega)]
  exact Nat.mod_eq_of_lt h
theorem qd_bt (n : Nat) {i : Nat} (hi : i < 32) : bt (nI n) i = n.testBit i := by
  show (BitVec.ofNat 32 n).getLsbD i = _
  rw [BitVec.getLsbD_ofNat, decide_eq_true hi, Bool.true_and]
theorem qd_btx (x : Int32) {i : Nat} (hi : i < 8) : bt x i = (qd_lo x).testBit i := by
  show x.toBitVec.toNat.testBit i = (x.toBitVec.toNat % 2 ^ 8).testBit i
  rw [Nat.testBit_mod_two_pow, decide_eq_true hi, Bool.true_and]
theorem qd_andn {a : Nat} (ha : a < 256) (x : Int32) : nI a &&& (x ^^^ (-1)) = nI (a &&& (255 ^^^ qd_lo x)) := by
  apply b_ext
  intro i hi
  rw [b_and, b_xor, b_m1 i hi, qd_bt _ hi, qd_bt _ hi, Nat.testBit_and, Nat.testBit_xor, qd_255]
  cases e : a.testBit i
  · rfl
  · have h8 := qd_bit8 ha e
    rw [qd_btx x h8, decide_eq_true h8]
    cases (qd_lo x).testBit i <;> rfl
theorem qd_andx {a : Nat} (ha : a < 256) (x : Int32) : nI a &&& x = nI (a &&& qd_lo x) := by
  apply b_ext
  intro i hi
  rw [b_and, qd_bt _ hi, qd_bt _ hi, Nat.testBit_and]
  cases e : a.testBit i
  · rfl
  · rw [qd_btx x (qd_bit8 ha e)]
theorem qd_and0n {a q : Nat} (ha : a < 256) : a &&& (255 ^^^ q) = 0 ↔ qd_sb a q = true := by
  constructor
  · intro h
    refine qd_sb_iff.mpr (fun i z => ?_)
    have h8 := qd_bit8 ha z
    have e : (a &&& (255 ^^^ q)).testBit i = false := by rw [h, Nat.zero_testBit]
    rw [Nat.testBit_and, Nat.testBit_xor, z, qd_255, decide_eq_true h8] at e
    cases e2 : q.testBit i
    · rw [e2] at e; cases e
    · rfl
  · intro h
    apply Nat.eq_of_testBit_eq
    intro i
    rw [Nat.zero_testBit, Nat.testBit_and, Nat.testBit_xor, qd_255]
    cases e : a.testBit i
    · rfl
    · rw [qd_sb_iff.mp h i e, decide_eq_true (qd_bit8 ha e)]; rfl
theorem qd_andn0 {a : Nat} (ha : a < 256) (x : Int32) : (nI a &&& (x ^^^ (-1))) = 0 ↔ qd_sb a (qd_lo x) = true := by
  have hb := qd_and256 (255 ^^^ qd_lo x) ha
  rw [qd_andn ha x, ← nI_0, nI_eq (by omega) (by omega)]
  exact qd_and0n ha
theorem qd_or (a b : Nat) : nI a ||| nI b = nI (a ||| b) := by
  apply b_ext
  intro i hi
  rw [b_or, qd_bt _ hi, qd_bt _ hi, qd_bt _ hi, Nat.testBit_or]
theorem qd_and0 {a b : Nat} (ha : a < 256) : (nI a &&& nI b) = 0 ↔ qd_mt a b = false := by
  have hb := qd_and256 b ha
  rw [nx_and, ← nI_0, nI_eq (by omega) (by omega)]
  unfold qd_mt
  rw [bne_eq_false_iff_eq]
theorem qd_shl : ∀ m, m < 8 → (1 : Int32) <<< (nI m &&& 31) = nI (2 ^ m) := by decide +kernel
theorem qd_xbit {n m : Nat} (hn : n < 256) (hm : m < 8) : (((nI n).toUInt32 >>> ((nI m).toUInt32 &&& Int32.toUInt32 31)).toInt32 &&& 1) = nI (n / 2 ^ m % 2) := by
  have hd : n / 2 ^ m ≤ n := Nat.div_le_self _ _
  rw [pk_ushrN (by omega) (nI m) m (s_u m (by omega))]
  exact pk_andN (n := n / 2 ^ m) (by omega) 1 (by decide)
theorem qd_ybit {n m : Nat} (hn : n < 256) (hm : m < 8) : ((nI n >>> (nI m &&& 31)) &&& 1) = nI (n / 2 ^ m % 2) := by
  have hd : n / 2 ^ m ≤ n := Nat.div_le_self _ _
  rw [pk_shrN (by omega) (nI m &&& 31) m (s_l m (by omega))]
  exact pk_andN (n := n / 2 ^ m) (by omega) 1 (by decide)
theorem qd_70i (f i : Nat) : 70 * nI f + nI i = nI (70 * f + i) := by
  show nI 70 * nI f + nI i = _
  rw [pk_mul, nI_add]
theorem qd_256i (f i : Nat) : 256 * nI f + nI i = nI (256 * f + i) := by
  show nI 256 * nI f + nI i = _
  rw [pk_mul, nI_add]
theorem qd_2560i (i : Nat) : 2560 + nI i = nI (2560 + i) := by
  show nI 2560 + nI i = _
  rw [nI_add]
theorem qd_70c {f i : Nat} (h : 70 * f + i < 700) : (70 * nI f + nI i).toNatClampNeg = 70 * f + i := by rw [qd_70i]; exact nI_clamp (by omega)
theorem qd_256c {f i : Nat} (h : 256 * f + i < 2816) : (256 * nI f + nI i).toNatClampNeg = 256 * f + i := by rw [qd_256i]; exact nI_clamp (by omega)
theorem qd_2560c {i : Nat} (h : i < 256) : (2560 + nI i).toNatClampNeg = 2560 + i := by rw [qd_2560i]; exact nI_clamp (by omega)
theorem qd_70in {f i : Nat} (h : 70 * f + i < 700) : vp_in (70 * nI f + nI i) 700 := by rw [qd_70i]; exact vp_in_nI h (by omega)
theorem qd_256in {f i : Nat} (h : 256 * f + i < 2816) : vp_in (256 * nI f + nI i) 2816 := by rw [qd_256i]; exact vp_in_nI h (by omega)
theorem qd_2560in {i : Nat} (h : i < 256) : vp_in (2560 + nI i) 2816 := by rw [qd_2560i]; exact vp_in_nI (by omega) (by omega)
theorem qd_sub1 (d : Nat) : nI (d + 1) - 1 = nI d := nI_pred d
theorem qd_sub2 (d : Nat) : nI (d + 2) - 2 = nI d := pk_sub (a := d + 2) (b := 2) (by omega)
theorem qd_subk {d k : Nat} (h : k < d) : (nI d - 1) - nI k = nI (d - 1 - k) := by
  obtain ⟨e, rfl⟩ : ∃ e, d = e + 1 := ⟨d - 1, by omega⟩
  rw [qd_sub1, pk_sub (by omega)]
  rfl
/-! ===== booleans, arrays ===== -/
def qd_b (b : Bool) : Int32 := cond b 1 0
theorem qd_b_nar (b : Bool) : vp_nar .boolean (qd_b b) = qd_b b := by cases b <;> rfl
theorem qd_b_n (b : Bool) : narrow .boolean (.int (qd_b b)) = .int (qd_b b) := by cases b <;> rfl
theorem qd_b0 {b : Bool} : qd_b b = 0 ↔ b = false := by cases b <;> decide
def qd_at (a : Nat → Int32) : Nat → List Nat → Prop
  | _, [] => True
  | o, x :: xs => a o = nI x ∧ qd_at a (o + 1) xs
theorem qd_at_keep {a a' : Nat → Int32} : ∀ (l : List Nat) (o : Nat), (∀ j, o ≤ j → j < o + l.length → a' j = a j) → qd_at a o l → qd_at a' o l
  | [], _, _, _ => trivial
  | x :: xs, o, h, ha => ⟨(h o (Nat.le_refl o) (by rw [List.length_cons]; omega)).trans ha.1, qd_at_keep xs (o + 1) (fun j h1 h2 => h j (by omega) (by rw [List.length_cons]; omega)) ha.2⟩
theorem qd_at_upd {a : Nat → Int32} {l : List Nat} {o k : Nat} {x : Int32} (hk : k < o ∨ o + l.length ≤ k) (h : qd_at a o l) : qd_at (upd a k x) o l := qd_at_keep l o (fun j h1 h2 => pk_un (by omega)) h
theorem qd_at_snoc {a : Nat → Int32} {x : Nat} : ∀ (l : List Nat) (o : Nat), qd_at a o l → a (o + l.length) = nI x → qd_at a o (l ++ [x])
  | [], _, _, h => ⟨h, trivial⟩
  | y :: ys, o, h, hx => ⟨h.1, qd_at_snoc ys (o + 1) h.2 (by
      have e : o + 1 + ys.length = o + (y :: ys).length := by rw [List.length_cons]; omega
      rw [e]; exact hx)⟩
theorem qd_at_put {a : Nat → Int32} {x o : Nat} {l : List Nat} (h : qd_at a o l) : qd_at (upd a (o + l.length) (nI x)) o (l ++ [x]) := qd_at_snoc l o (qd_at_upd (Or.inr (Nat.le_refl _)) h) pk_us
def qd_row (a : Nat → Int32) (o : Nat) (P : Nat → Bool) : Prop := ∀ s, s < 256 → a (o + s) = qd_b (P s)
theorem qd_row_keep {a a' : Nat → Int32} {o : Nat} {P : Nat → Bool} (h : qd_row a o P) (k : ∀ j, o ≤ j → j < o + 256 → a' j = a j) : qd_row a' o P := fun s hs => (k (o + s) (by omega) (by omega)).trans (h s hs)
end
section
/-! ===== the component: ones, push, gather and its loops ===== -/
theorem qd_xones4 {post : Int32 → Prop} {n : Nat} (hn : n < 256) (hp : post (nI (qd_on n))) : ∀ d i, i + d = 8 → wX_ones_4 post (nI n) (d + 1) (nI (qd_onk n i)) (nI i)
  | 0, i, h => by
    obtain rfl : i = 8 := by omega
    exact pk_le 8 8 (fun _ => hp) (fun z => absurd z (by omega))
  | d + 1, i, h => pk_le 8 i (fun z => absurd z (by omega)) (fun _ => nm_r (e' := nI (qd_onk n (i + 1))) (by rw [qd_xbit hn (by omega), nI_add]; rfl) (nm_r (nI_1 i) (qd_xones4 hn hp d (i + 1) (by omega))))
theorem qd_xones {post : Int32 → Prop} {n : Nat} (hn : n < 256) (hp : post (nI (qd_on n))) : wpX_ones post (nI n) := Exists.intro 9 (qd_xones4 hn hp 8 0 rfl)
/-- what a method leaves that pushes the family R at height d -/
def qd_out (post : Int32 → SX → Prop) (d : Nat) (R : List Nat) (sz le : Nat → Int32) : Prop := ∀ (oc : Int32) (le' se ol : Nat → Int32), qd_at le' (70 * d) R → (∀ j, j < 70 * d → le' j = le j) → post (nI (d + 1)) (nI (d + 1), nI R.length, oc, upd sz d (nI R.length), le', se, ol)
theorem qd_push15 {oc : Int32} {sz ol : Nat → Int32} {post : Int32 → SX → Prop} {d G : Nat} {le0 se : Nat → Int32} {R : List Nat} (hd : d < 10) (hG : G ≤ 70) (K : ∀ le', qd_at le' (70 * d) R → (∀ j, j < 70 * d → le' j = le0 j) → post (nI (d + 1)) (nI (d + 1), nI G, oc, sz, le', se, ol)) : ∀ (rest pre : List Nat) (i : Nat) (le : Nat → Int32), pre.length = i → i + rest.length = G → qd_at se i rest → qd_at le (70 * d) pre → (∀ j, j < 70 * d → le j = le0 j) → pre ++ rest = R → wX_push_15 post (nI d) (nI G) oc (rest.length + 1) (nI i) sz le se ol
  | [], pre, i, le, hi, hr, hs, hp, hb, e => by
    have hr' : i = G := by simpa using hr
    rw [List.append_nil] at e
    subst e
    exact pk_le G i (fun _ => nm_r (nI_1 d) (K le hp hb)) (fun z => absurd z (by omega))
  | x :: xs, pre, i, le, hi, hr, hs, hp, hb, e => by
    rw [List.length_cons] at hr
    have h1 : qd_at (upd le (70 * d + i) (nI x)) (70 * d) (pre ++ [x]) := by
      have h := qd_at_put (x := x) hp
      rw [hi] at h
      exact h
    exact pk_le G i (fun z => absurd z (by omega)) (fun _ => And.intro (vp_in_nI (by omega) (by omega)) (And.intro (qd_70in (by omega)) (nm_r (e' := upd le (70 * d + i) (nI x)) (by rw [qd_70c (by omega), nI_clamp (by omega), hs.1]) (nm_r (nI_1 i) (qd_push15 hd hG K xs (pre ++ [x]) (i + 1) _ (by rw [List.length_append, hi]; rfl) (by omega) hs.2 h1 (fun j hj => by rw [pk_un (by omega)]; exact hb j hj) (by rw [← e, List.append_assoc]; rfl))))))
theorem qd_push {oc : Int32} {sz le se ol : Nat → Int32} {post : Int32 → SX → Prop} {d : Nat} {l : List Nat} (hd : d < 10) (hl : l.length ≤ 70) (hA : qd_at se 0 l) (K : qd_out post d l sz le) : wpX_push post (nI d, nI l.length, oc, sz, le, se, ol) :=
  And.intro (vp_in_nI hd (by omega)) (nm_r (e' := upd sz d (nI l.length)) (by rw [nI_clamp (by omega)]) (Exists.intro (l.length + 1) (qd_push15 (le0 := le) hd hl (fun le' h1 h2 => K oc le' se ol h1 h2) l [] 0 le rfl (Nat.zero_add _) hA trivial (fun _ _ => rfl) rfl)))
section
variable {D oc : Int32} {sz le ol : Nat → Int32}
theorem qd_g34 {post : SX → Prop} {s G : Nat} {R : List Nat} (hs : s < 256) (hG : G ≤ 70) (K : ∀ se, qd_at se 0 R → post (D, nI R.length, oc, sz, le, se, ol)) : ∀ (rest kept : List Nat) (k i : Nat) (se : Nat → Int32), kept.length = k → k ≤ i → i + rest.length = G → (∀ x, x ∈ rest → x < 256) → qd_at se 0 kept → qd_at se i rest → kept ++ rest.filter (fun x => !qd_sb s x) ++ [s] = R → wX_gather_34 post (nI s) D (nI G) oc (rest.length + 1) (nI k) (nI i) sz le se ol
  | [], kept, k, i, se, hk, hki, hi, hl, ha, hb, e => by
    have hi' : i = G := by simpa using hi
    have e' : kept ++ [s] = R := by rw [← e, List.filter_nil, List.append_nil]
    have hR : R.length = k + 1 := by rw [← e', List.length_append, hk]; rfl
    have h1 : qd_at (upd se k (nI s)) 0 R := by
      have h := qd_at_put (x := s) ha
      rw [Nat.zero_add, hk, e'] at h
      exact h
    have h2 := K _ h1
    rw [hR] at h2
    exact pk_le G i (fun _ => And.intro (vp_in_nI (by omega) (by omega)) (nm_r (e' := upd se k (nI s)) (by rw [nI_clamp (by omega)]) (nm_r (nI_1 k) h2))) (fun z => absurd z (by omega))
  | x :: xs, kept, k, i, se, hk, hki, hi, hl, ha, hb, e => by
    rw [List.length_cons] at hi
    have hx := hl x (List.mem_cons_self ..)
    have hl' : ∀ y, y ∈ xs → y < 256 := fun y hy => hl y (List.mem_cons_of_mem _ hy)
    have hv : se (nI i).toNatClampNeg = nI x := by rw [nI_clamp (by omega)]; exact hb.1
    have hc : (nI s &&& (se (nI i).toNatClampNeg ^^^ (-1))) = 0 ↔ qd_sb s x = true := by rw [hv, qd_andn0 hs, qd_lo_nI hx]
    refine pk_le G i (fun z => absurd z (by omega)) (fun _ => And.intro (vp_in_nI (by omega) (by omega)) ?_)
    by_cases c : qd_sb s x = true
    · refine br_t (hc.mpr c) (nm_r (nI_1 i) (qd_g34 hs hG K xs kept k (i + 1) se hk (by omega) (by omega) hl' ha hb.2 ?_))
      rw [← e, List.filter_cons_of_neg (by simp [c])]
    · have c' : qd_sb s x = false := by simpa using c
      refine br_f (fun z => c (hc.mp z)) (And.intro (vp_in_nI (by omega) (by omega)) (And.intro (vp_in_nI (by omega) (by omega)) (nm_r (e' := upd se k (nI x)) (by rw [hv, nI_clamp (by omega)]) (nm_r (nI_1 k) (nm_r (nI_1 i) (qd_g34 hs hG K xs (kept ++ [x]) (k + 1) (i + 1) _ (by rw [List.length_append, hk]; rfl) (by omega) (by omega) hl' ?_ (qd_at_upd (Or.inl (by omega)) hb.2) ?_))))))
      · have h := qd_at_put (x := x) ha
        rw [Nat.zero_add, hk] at h
        exact h
      · rw [← e, List.filter_cons_of_pos (by simp [c'])]
        simp
theorem qd_g2 {post : SX → Prop} {s : Nat} {l : List Nat} {se : Nat → Int32} (hl : qd_fam l) (hs : s < 256) (hA : qd_at se 0 l) (K : ∀ se', qd_at se' 0 (qd_ga l s) → post (D, nI (qd_ga l s).length, oc, sz, le, se', ol)) : ∀ (rest : List Nat) (i : Nat), i + rest.length = l.length → (∀ x, x ∈ rest → x < 256) → qd_at se i rest → qd_up l s = qd_up rest s → wX_gather_2 post (nI s) D (nI l.length) oc sz le se ol (rest.length + 1) (nI i)
  | [], i, hi, _, _, hu => by
    have h70 := qd_70 hl
    have hi' : i = l.length := by simpa using hi
    have hf : ¬ qd_up l s = true := by rw [hu]; exact Bool.false_ne_true
    have e : qd_ga l s = l.filter (fun x => !qd_sb s x) ++ [s] := if_neg hf
    refine pk_le l.length i (fun _ => Exists.intro (l.length + 1) ?_) (fun z => absurd z (by omega))
    refine qd_g34 hs h70 K l [] 0 0 se rfl (Nat.le_refl 0) (Nat.zero_add _) hl.1 trivial hA ?_
    rw [e]
    rfl
  | x :: xs, i, hi, hr, hb, hu => by
    have h70 := qd_70 hl
    rw [List.length_cons] at hi
    have hx := hr x (List.mem_cons_self ..)
    have hr' : ∀ y, y ∈ xs → y < 256 := fun y hy => hr y (List.mem_cons_of_mem _ hy)
    have hv : se (nI i).toNatClampNeg = nI x := by rw [nI_clamp (by omega)]; exact hb.1
    have hc : (se (nI i).toNatClampNeg &&& (nI s ^^^ (-1))) = 0 ↔ qd_sb x s = true := by rw [hv, qd_andn0 hx, qd_lo_nI hs]
    refine pk_le l.length i (fun z => absurd z (by omega)) (fun _ => And.intro (vp_in_nI (by omega) (by omega)) ?_)
    by_cases c : qd_sb x s = true
    · have hut : qd_up l s = true := by rw [hu]; exact qd_up_iff.mpr ⟨x, List.mem_cons_self .., c⟩
      have e : qd_ga l s = l := if_pos hut
      have h2 := K se (by rw [e]; exact hA)
      rw [e] at h2
      exact br_t (hc.mpr c) h2
    · have c' : qd_sb x s = false := by simpa using c
      refine br_f (fun z => c (hc.mp z)) (nm_r (nI_1 i) (qd_g2 hl hs hA K xs (i + 1) (by omega) hr' hb.2 ?_))
      rw [hu]
      show (qd_sb x s || qd_up xs s) = _
      rw [c', Bool.false_or]
theorem qd_gather {post : SX → Prop} {s : Nat} {l : List Nat} {se : Nat → Int32} (hl : qd_fam l) (hs : s < 256) (hA : qd_at se 0 l) (K : ∀ se', qd_at se' 0 (qd_ga l s) → post (D, nI (qd_ga l s).length, oc, sz, le, se', ol)) : wpX_gather post (D, nI l.length, oc, sz, le, se, ol) (nI s) :=
  Exists.intro (l.length + 1) (qd_g2 hl hs hA K l 0 (Nat.zero_add _) hl.1 hA rfl)
theorem qd_gu2 {post : SX → Prop} {s f : Nat} {lb R : List Nat} (hf : f < 10) (hs : s < 256) (hsz : sz f = nI lb.length) (hlb : lb.length ≤ 70) (K : ∀ se, qd_at se 0 R → post (D, nI R.length, oc, sz, le, se, ol)) : ∀ (rest : List Nat) (i : Nat) (acc : List Nat) (se : Nat → Int32), i + rest.length = lb.length → (∀ x, x ∈ rest → x < 256) → qd_at le (70 * f + i) rest → qd_fam acc → qd_at se 0 acc → qd_gl acc (rest.map (fun b => s ||| b)) = R → wX_gatherUnions_2 post (nI s) (nI f) (rest.length + 1) (nI i) D (nI acc.length) oc sz le se ol
  | [], i, acc, se, hi, _, _, ha, hA, e => by
    have hi' : i = lb.length := by simpa using hi
    have e' : acc = R := e
    subst e'
    exact And.intro (vp_in_nI hf (by omega)) (pk_le lb.length i (fun _ => K se hA) (fun z => absurd z (by omega)) (by rw [nI_clamp (by omega), hsz]))
  | x :: xs, i, acc, se, hi, hr, hb, ha, hA, e => by
    rw [List.length_cons] at hi
    have hx := hr x (List.mem_cons_self ..)
    have hr' : ∀ y, y ∈ xs → y < 256 := fun y hy => hr y (List.mem_cons_of_mem _ hy)
    have hv : le (70 * nI f + nI i).toNatClampNeg = nI x := by rw [qd_70c (by omega)]; exact hb.1
    refine And.intro (vp_in_nI hf (by omega)) (pk_le lb.length i (fun z => absurd z (by omega)) (fun _ => And.intro (qd_70in (by omega)) ?_) (by rw [nI_clamp (by omega), hsz]))
    rw [hv, qd_or]
    refine qd_gather ha (qd_or256 hs hx) hA (fun se' h' => ?_)
    exact nm_r (nI_1 i) (qd_gu2 hf hs hsz hlb K xs (i + 1) _ se' (by omega) hr' hb.2 (qd_ga_fam ha (qd_or256 hs hx)) h' e)
theorem qd_gatherUnions {post : SX → Prop} {s f : Nat} {lb acc : List Nat} {se : Nat → Int32} (hf : f < 10) (hs : s < 256) (hsz : sz f = nI lb.length) (hlb : qd_fam lb) (hb : qd_at le (70 * f) lb) (ha : qd_fam acc) (hA : qd_at se 0 acc) (K : ∀ se', qd_at se' 0 (qd_gl acc (lb.map (fun b => s ||| b))) → post (D, nI (qd_gl acc (lb.map (fun b => s ||| b))).length, oc, sz, le, se', ol)) : wpX_gatherUnions post (D, nI acc.length, oc, sz, le, se, ol) (nI s) (nI f) :=
  Exists.intro (lb.length + 1) (qd_gu2 hf hs hsz (qd_70 hlb) K lb 0 acc se (Nat.zero_add _) hlb.1 hb ha hA rfl)
theorem qd_gh14 {post : SX → Prop} {s o : Nat} {R : List Nat} (hs : s < 256) (ho : o < 256) (K : ∀ se, qd_at se 0 R → post (D, nI R.length, oc, sz, le, se, ol)) : ∀ (d i : Nat) (acc : List Nat) (se : Nat → Int32), i + d = 8 → qd_fam acc → qd_at se 0 acc → qd_gl acc (qd_hr s o d i) = R → wX_gatherHits_14 post (nI s) (nI o) (d + 1) (nI i) D (nI acc.length) oc sz le se ol
  | 0, i, acc, se, hi, ha, hA, e => by
    have e' : acc = R := e
    subst e'
    exact pk_le 8 i (fun _ => K se hA) (fun z => absurd z (by omega))
  | d + 1, i, acc, se, hi, ha, hA, e => by
    have hc : ((((nI o).toUInt32 >>> ((nI i).toUInt32 &&& Int32.toUInt32 31)).toInt32) &&& 1) = 0 ↔ o.testBit i = false := nx_bit (by omega) (by omega)
    have e1 : qd_hr s o (d + 1) i = (if o.testBit i = true then [s ||| 2 ^ i] else []) ++ qd_hr s o d (i + 1) := rfl
    refine pk_le 8 i (fun z => absurd z (by omega)) (fun _ => ?_)
    by_cases c : o.testBit i = true
    · have hp := qd_or256 hs (qd_pow256 (m := i) (by omega))
      have e2 : qd_gl (qd_ga acc (s ||| 2 ^ i)) (qd_hr s o d (i + 1)) = R := by
        rw [← e, e1, if_pos c]
        rfl
      refine br_f (fun z => ?_) ?_
      · rw [hc.mp z] at c
        cases c
      · rw [qd_shl i (by omega), qd_or]
        refine qd_gather ha hp hA (fun se' h' => ?_)
        exact nm_r (nI_1 i) (qd_gh14 hs ho K d (i + 1) _ se' (by omega) (qd_ga_fam ha hp) h' e2)
    · refine br_t (hc.mpr (by simpa using c)) (nm_r (nI_1 i) (qd_gh14 hs ho K d (i + 1) acc se (by omega) ha hA ?_))
      rw [← e, e1, if_neg c]
      rfl
theorem qd_gatherHits {post : SX → Prop} {s o : Nat} {acc : List Nat} {se : Nat → Int32} (hs : s < 256) (ho : o < 256) (ha : qd_fam acc) (hA : qd_at se 0 acc) (K : ∀ se', qd_at se' 0 (qd_gl acc (qd_ht s o)) → post (D, nI (qd_gl acc (qd_ht s o)).length, oc, sz, le, se', ol)) : wpX_gatherHits post (D, nI acc.length, oc, sz, le, se, ol) (nI s) (nI o) := by
  by_cases c : qd_mt s o = true
  · have e : qd_ht s o = [s] := if_pos c
    rw [e] at K
    refine br_f (fun z => ?_) (qd_gather ha hs hA (fun se' h' => K se' h'))
    rw [(qd_and0 hs).mp z] at c
    cases c
  · have e : qd_ht s o = qd_hr s o 8 0 := if_neg c
    rw [e] at K
    exact br_t ((qd_and0 hs).mpr (by simpa using c)) (Exists.intro 9 (qd_gh14 hs ho K 8 0 acc se rfl ha hA rfl))
end
theorem qd_ko10 {D oc : Int32} {sz le se : Nat → Int32} {post : SX → Prop} {G : Nat} {R : List Nat} (hG : G ≤ 70) (K : ∀ ol, qd_at ol 0 R → post (D, 0, oc, sz, le, se, ol)) : ∀ (rest pre : List Nat) (i : Nat) (ol : Nat → Int32), pre.length = i → i + rest.length = G → qd_at se i rest → qd_at ol 0 pre → pre ++ rest = R → wX_keepOlder_10 post D (nI G) oc (rest.length + 1) (nI i) sz le se ol
  | [], pre, i, ol, hi, hr, hs, hp, e => by
    have hr' : i = G := by simpa using hr
    rw [List.append_nil] at e
    subst e
    exact pk_le G i (fun _ => K ol hp) (fun z => absurd z (by omega))
  | x :: xs, pre, i, ol, hi, hr, hs, hp, e => by
    rw [List.length_cons] at hr
    have h1 : qd_at (upd ol i (nI x)) 0 (pre ++ [x]) := by
      have h := qd_at_put (x := x) hp
      rw [Nat.zero_add, hi] at h
      exact h
    exact pk_le G i (fun z => absurd z (by omega)) (fun _ => And.intro (vp_in_nI (by omega) (by omega)) (And.intro (vp_in_nI (by omega) (by omega)) (nm_r (e' := upd ol i (nI x)) (by rw [nI_clamp (by omega), hs.1]) (nm_r (nI_1 i) (qd_ko10 hG K xs (pre ++ [x]) (i + 1) _ (by rw [List.length_append, hi]; rfl) (by omega) hs.2 h1 (by rw [← e, List.append_assoc]; rfl))))))
theorem qd_keepOlder {D oc : Int32} {sz le se ol : Nat → Int32} {post : SX → Prop} {l : List Nat} (hl : l.length ≤ 70) (hA : qd_at se 0 l) (K : ∀ ol', qd_at ol' 0 l → post (D, 0, nI l.length, sz, le, se, ol')) : wpX_keepOlder post (D, nI l.length, oc, sz, le, se, ol) :=
  Exists.intro (l.length + 1) (qd_ko10 hl K l [] 0 ol rfl (Nat.zero_add _) hA trivial rfl)
end
section
/-! ===== the component's methods that push ===== -/
theorem qd_al28 {oc : Int32} {sz le ol : Nat → Int32} {post : Int32 → SX → Prop} {c q d : Nat} {x2 : Int32} (hc : c ≤ 8) (hd : d < 10) (hq : qd_lo x2 = q) (K : qd_out post d (qd_al q c 256) sz le) : ∀ (e i : Nat) (se : Nat → Int32), i + e = 256 → qd_at se 0 (qd_al q c i) → wX_atLeast_28 post (nI c) x2 (nI d) oc (e + 1) (nI i) (nI (qd_al q c i).length) sz le se ol
  | 0, i, se, hi, hA => by
    obtain rfl : i = 256 := by omega
    exact pk_le 256 256 (fun _ => qd_push hd (qd_70 (qd_al_fam q c (Nat.le_refl 256))) hA (fun oc' le' se' ol' h1 h2 => K oc' le' se' ol' h1 h2)) (fun z => absurd z (by omega))
  | e + 1, i, se, hi, hA => by
    have h70 := qd_70 (qd_al_fam q c (n := i) (by omega))
    have h8 := qd_on_le i
    have hcn : (nI i &&& (x2 ^^^ (-1))) = 0 ↔ qd_sb i q = true := by rw [qd_andn0 (by omega), hq]
    refine pk_le 256 i (fun z => absurd z (by omega)) (fun _ => ?_)
    by_cases c1 : qd_sb i q = true
    · refine br_t (hcn.mpr c1) (qd_xones (by omega) ?_)
      refine pk_eq (qd_on i) c (fun z => And.intro (vp_in_nI (by omega) (by omega)) ?_) (fun z => ?_)
      · have e1 := qd_al_succ_t c1 z
        have e2 : (qd_al q c (i + 1)).length = (qd_al q c i).length + 1 := by rw [e1, List.length_append]; rfl
        have h1 : qd_at (upd se (qd_al q c i).length (nI i)) 0 (qd_al q c (i + 1)) := by
          have h := qd_at_put (x := i) hA
          rw [Nat.zero_add, ← e1] at h
          exact h
        have ih := qd_al28 (oc := oc) (ol := ol) hc hd hq K e (i + 1) _ (by omega) h1
        rw [e2] at ih
        exact nm_r (e' := upd se (qd_al q c i).length (nI i)) (by rw [nI_clamp (by omega)]) (nm_r (nI_1 _) (nm_r (nI_1 i) ih))
      · have e1 := qd_al_succ_f (q := q) (c := c) (n := i) (fun w => z w.2)
        have ih := qd_al28 (oc := oc) (ol := ol) hc hd hq K e (i + 1) se (by omega) (by rw [e1]; exact hA)
        rw [e1] at ih
        exact nm_r (nI_1 i) ih
    · have e1 := qd_al_succ_f (q := q) (c := c) (n := i) (fun w => c1 w.1)
      have ih := qd_al28 (oc := oc) (ol := ol) hc hd hq K e (i + 1) se (by omega) (by rw [e1]; exact hA)
      rw [e1] at ih
      exact br_f (fun z => c1 (hcn.mp z)) (nm_r (nI_1 i) ih)
theorem qd_xAtLeast {g oc : Int32} {sz le se ol : Nat → Int32} {post : Int32 → SX → Prop} {c d : Nat} (x2 : Int32) (hc : c ≤ 8) (hd : d < 10) (K : qd_out post d (qd_al (qd_lo x2) c 256) sz le) : wpX_atLeast post (nI d, g, oc, sz, le, se, ol) (nI c) x2 :=
  br_f (nI_pos (by omega)) (pk_lt 8 c (fun z => absurd z (by omega)) (fun _ => pk_lt d 10 (fun _ => Exists.intro 257 (qd_al28 hc hd rfl K 256 0 se rfl trivial)) (fun z => absurd z (by omega))))
/-! join -/
theorem qd_j129 {oc : Int32} {sz le se ol : Nat → Int32} {post : Int32 → SX → Prop} {d : Nat} {R : List Nat} (hd : d < 10) (hR : qd_fam R) (hA : qd_at se 0 R) (K : qd_out post d R sz le) : wX_join_129 post (nI (d + 2)) (nI R.length) oc sz le se ol :=
  nm_r (qd_sub2 d) (qd_push hd (qd_70 hR) hA (fun oc' le' se' ol' h1 h2 => K oc' le' se' ol' h1 h2))
section
variable {oc : Int32} {sz le ol : Nat → Int32} {post : Int32 → SX → Prop} {d : Nat} {la lb R : List Nat}
theorem qd_j92a {x1 : Int32} {se : Nat → Int32} (hx : ¬ x1 = 0) (hd : d + 1 < 10) (hR : qd_fam R) (hA : qd_at se 0 R) (K : qd_out post d R sz le) : wX_join_92 post x1 (nI (d + 1)) 1 0 (nI (d + 2)) (nI R.length) oc sz le se ol :=
  And.intro (vp_in_nI hd (by omega)) (br_c (fun _ => qd_j129 (by omega) hR hA K) (fun _ => br_f hx (qd_j129 (by omega) hR hA K)))
theorem qd_j92o (hd : d + 1 < 10) (hsz : sz (d + 1) = nI lb.length) (hlb : lb.length ≤ 70) (K : qd_out post d R sz le) : ∀ (rest : List Nat) (i : Nat) (acc : List Nat) (se : Nat → Int32), i + rest.length = lb.length → (∀ x, x ∈ rest → x < 256) → qd_at le (70 * (d + 1) + i) rest → qd_fam acc → qd_at se 0 acc → qd_gl acc rest = R → wX_join_92 post 0 (nI (d + 1)) (rest.length + 1) (nI i) (nI (d + 2)) (nI acc.length) oc sz le se ol
  | [], i, acc, se, hi, _, _, ha, hA, e => by
    have hi' : i = lb.length := by simpa using hi
    have e' : acc = R := e
    subst e'
    exact And.intro (vp_in_nI hd (by omega)) (pk_le lb.length i (fun _ => qd_j129 (by omega) ha hA K) (fun z => absurd z (by omega)) (by rw [nI_clamp (by omega), hsz]))
  | x :: xs, i, acc, se, hi, hr, hb, ha, hA, e => by
    rw [List.length_cons] at hi
    have hx := hr x (List.mem_cons_self ..)
    have hr' : ∀ y, y ∈ xs → y < 256 := fun y hy => hr y (List.mem_cons_of_mem _ hy)
    have hv : le (70 * nI (d + 1) + nI i).toNatClampNeg = nI x := by rw [qd_70c (by omega)]; exact hb.1
    refine And.intro (vp_in_nI hd (by omega)) (pk_le lb.length i (fun z => absurd z (by omega)) (fun _ => br_t rfl (And.intro (qd_70in (by omega)) ?_)) (by rw [nI_clamp (by omega), hsz]))
    rw [hv]
    refine qd_gather ha hx hA (fun se' h' => ?_)
    exact nm_r (nI_1 i) (qd_j92o hd hsz hlb K xs (i + 1) _ se' (by omega) hr' hb.2 (qd_ga_fam ha hx) h' e)
theorem qd_j32o (hd : d + 1 < 10) (hsa : sz d = nI la.length) (hla : la.length ≤ 70) (hsz : sz (d + 1) = nI lb.length) (hlb : qd_fam lb) (hbl : qd_at le (70 * (d + 1)) lb) (K : qd_out post d R sz le) : ∀ (rest : List Nat) (i : Nat) (acc : List Nat) (se : Nat → Int32), i + rest.length = la.length → (∀ x, x ∈ rest → x < 256) → qd_at le (70 * d + i) rest → qd_fam acc → qd_at se 0 acc → qd_gl (qd_gl acc rest) lb = R → wX_join_32 post 0 (nI d) (nI (d + 1)) (rest.length + 1) (nI i) (nI (d + 2)) (nI acc.length) oc sz le se ol
  | [], i, acc, se, hi, _, _, ha, hA, e => by
    have hi' : i = la.length := by simpa using hi
    exact And.intro (vp_in_nI (by omega) (by omega)) (pk_le la.length i (fun _ => Exists.intro (lb.length + 1) (qd_j92o hd hsz (qd_70 hlb) K lb 0 acc se (Nat.zero_add _) hlb.1 hbl ha hA e)) (fun z => absurd z (by omega)) (by rw [nI_clamp (by omega), hsa]))
  | x :: xs, i, acc, se, hi, hr, hb, ha, hA, e => by
    rw [List.length_cons] at hi
    have hx := hr x (List.mem_cons_self ..)
    have hr' : ∀ y, y ∈ xs → y < 256 := fun y hy => hr y (List.mem_cons_of_mem _ hy)
    have hv : le (70 * nI d + nI i).toNatClampNeg = nI x := by rw [qd_70c (by omega)]; exact hb.1
    refine And.intro (vp_in_nI (by omega) (by omega)) (pk_le la.length i (fun z => absurd z (by omega)) (fun _ => br_t rfl (And.intro (qd_70in (by omega)) ?_)) (by rw [nI_clamp (by omega), hsa]))
    rw [hv]
    refine qd_gather ha hx hA (fun se' h' => ?_)
    exact nm_r (nI_1 i) (qd_j32o hd hsa hla hsz hlb hbl K xs (i + 1) _ se' (by omega) hr' hb.2 (qd_ga_fam ha hx) h' e)
theorem qd_map256 {x : Nat} (hx : x < 256) (hlb : qd_fam lb) : ∀ y, y ∈ lb.map (fun b => x ||| b) → y < 256 := by
  intro y hy
  obtain ⟨b, hb, rfl⟩ := List.mem_map.mp hy
  exact qd_or256 hx (hlb.1 b hb)
theorem qd_j32a {x1 : Int32} (hx1 : ¬ x1 = 0) (hd : d + 1 < 10) (hsa : sz d = nI la.length) (hla : la.length ≤ 70) (hsz : sz (d + 1) = nI lb.length) (hlb : qd_fam lb) (hbl : qd_at le (70 * (d + 1)) lb) (K : qd_out post d R sz le) : ∀ (rest : List Nat) (i : Nat) (acc : List Nat) (se : Nat → Int32), i + rest.length = la.length → (∀ x, x ∈ rest → x < 256) → qd_at le (70 * d + i) rest → qd_fam acc → qd_at se 0 acc → qd_gl acc (qd_un rest lb) = R → wX_join_32 post x1 (nI d) (nI (d + 1)) (rest.length + 1) (nI i) (nI (d + 2)) (nI acc.length) oc sz le se ol
  | [], i, acc, se, hi, _, _, ha, hA, e => by
    have hi' : i = la.length := by simpa using hi
    have e' : acc = R := e
    subst e'
    exact And.intro (vp_in_nI (by omega) (by omega)) (pk_le la.length i (fun _ => Exists.intro 1 (qd_j92a hx1 hd ha hA K)) (fun z => absurd z (by omega)) (by rw [nI_clamp (by omega), hsa]))
  | x :: xs, i, acc, se, hi, hr, hb, ha, hA, e => by
    rw [List.length_cons] at hi
    have hx := hr x (List.mem_cons_self ..)
    have hr' : ∀ y, y ∈ xs → y < 256 := fun y hy => hr y (List.mem_cons_of_mem _ hy)
    have hv : le (70 * nI d + nI i).toNatClampNeg = nI x := by rw [qd_70c (by omega)]; exact hb.1
    have e2 : qd_gl (qd_gl acc (lb.map (fun b => x ||| b))) (qd_un xs lb) = R := by
      rw [← e, ← qd_gl_app]
      rfl
    refine And.intro (vp_in_nI (by omega) (by omega)) (pk_le la.length i (fun z => absurd z (by omega)) (fun _ => br_f hx1 (And.intro (qd_70in (by omega)) ?_)) (by rw [nI_clamp (by omega), hsa]))
    rw [hv]
    refine qd_gatherUnions hd hx hsz hlb hbl ha hA (fun se' h' => ?_)
    exact nm_r (nI_1 i) (qd_j32a hx1 hd hsa hla hsz hlb hbl K xs (i + 1) _ se' (by omega) hr' hb.2 (qd_gl_fam _ _ (qd_map256 hx hlb) ha) h' e2)
theorem qd_xJoin0 {g : Int32} {se : Nat → Int32} (hd : d + 1 < 10) (hsa : sz d = nI la.length) (hla : qd_fam la) (hal : qd_at le (70 * d) la) (hsz : sz (d + 1) = nI lb.length) (hlb : qd_fam lb) (hbl : qd_at le (70 * (d + 1)) lb) (K : qd_out post d (qd_gl (qd_gl [] la) lb) sz le) : wpX_join post (nI (d + 2), g, oc, sz, le, se, ol) 0 :=
  pk_le 2 (d + 2) (fun _ => nm_r (qd_sub2 d) (nm_r (qd_sub1 (d + 1)) (Exists.intro (la.length + 1) (qd_j32o hd hsa (qd_70 hla) hsz hlb hbl K la 0 [] se (Nat.zero_add _) hla.1 hal qd_fam_nil trivial rfl)))) (fun z => absurd z (by omega))
theorem qd_xJoin1 {g x1 : Int32} {se : Nat → Int32} (hx1 : ¬ x1 = 0) (hd : d + 1 < 10) (hsa : sz d = nI la.length) (hla : qd_fam la) (hal : qd_at le (70 * d) la) (hsz : sz (d + 1) = nI lb.length) (hlb : qd_fam lb) (hbl : qd_at le (70 * (d + 1)) lb) (K : qd_out post d (qd_gl [] (qd_un la lb)) sz le) : wpX_join post (nI (d + 2), g, oc, sz, le, se, ol) x1 :=
  pk_le 2 (d + 2) (fun _ => nm_r (qd_sub2 d) (nm_r (qd_sub1 (d + 1)) (Exists.intro (la.length + 1) (qd_j32a hx1 hd hsa (qd_70 hla) hsz hlb hbl K la 0 [] se (Nat.zero_add _) hla.1 hal qd_fam_nil trivial rfl)))) (fun z => absurd z (by omega))
end
/-! dual -/
theorem qd_d47 {D : Int32} {sz le ol : Nat → Int32} {post : Int32 → SX → Prop} {J : Int32 → Int32 → Int32 → Int32 → (Nat → Int32) → (Nat → Int32) → (Nat → Int32) → (Nat → Int32) → Prop} {f i m : Nat} {lo R : List Nat} (hi : 70 * f + i < 700) (hm : le (70 * f + i) = nI m) (hm' : m < 256) (hlo : lo.length ≤ 70) (K : ∀ se, qd_at se 0 R → J (nI (i + 1)) D (nI R.length) (nI lo.length) sz le se ol) : ∀ (rest : List Nat) (k : Nat) (acc : List Nat) (se : Nat → Int32), k + rest.length = lo.length → (∀ x, x ∈ rest → x < 256) → qd_at ol k rest → qd_fam acc → qd_at se 0 acc → qd_gl acc (rest.flatMap (fun s => qd_ht s m)) = R → wX_dual_47 post J (nI f) (nI i) (rest.length + 1) (nI k) D (nI acc.length) (nI lo.length) sz le se ol
  | [], k, acc, se, hk, _, _, ha, hA, e => by
    have hk' : k = lo.length := by simpa using hk
    have e' : acc = R := e
    subst e'
    exact pk_le lo.length k (fun _ => nm_r (nI_1 i) (K se hA)) (fun z => absurd z (by omega))
  | x :: xs, k, acc, se, hk, hr, hb, ha, hA, e => by
    rw [List.length_cons] at hk
    have hx := hr x (List.mem_cons_self ..)
    have hr' : ∀ y, y ∈ xs → y < 256 := fun y hy => hr y (List.mem_cons_of_mem _ hy)
    have hv : ol (nI k).toNatClampNeg = nI x := by rw [nI_clamp (by omega)]; exact hb.1
    have hv2 : le (70 * nI f + nI i).toNatClampNeg = nI m := by rw [qd_70c hi]; exact hm
    refine pk_le lo.length k (fun z => absurd z (by omega)) (fun _ => And.intro (vp_in_nI (by omega) (by omega)) (And.intro (qd_70in hi) ?_))
    rw [hv, hv2]
    refine qd_gatherHits hx hm' ha hA (fun se' h' => ?_)
    exact nm_r (nI_1 k) (qd_d47 hi hm hm' hlo K xs (k + 1) _ se' (by omega) hr' hb.2 (qd_gl_fam _ _ (qd_ht_256 m hx) ha) h' (by rw [← e, List.flatMap_cons, qd_gl_app]))
theorem qd_d31 {sz le : Nat → Int32} {post : Int32 → SX → Prop} {f : Nat} {l R : List Nat} (hf : f < 10) (hsz : sz f = nI l.length) (hl : l.length ≤ 70) (K : qd_out post f R sz le) : ∀ (rest : List Nat) (i : Nat) (acc : List Nat) (oc : Int32) (se ol : Nat → Int32), i + rest.length = l.length → (∀ x, x ∈ rest → x < 256) → qd_at le (70 * f + i) rest → qd_fam acc → qd_at se 0 acc → qd_du acc rest = R → wX_dual_31 post (nI f) (rest.length + 1) (nI i) (nI (f + 1)) (nI acc.length) oc sz le se ol
  | [], i, acc, oc, se, ol, hi, _, _, ha, hA, e => by
    have hi' : i = l.length := by simpa using hi
    have e' : acc = R := e
    subst e'
    exact And.intro (vp_in_nI hf (by omega)) (pk_le l.length i (fun _ => nm_r (qd_sub1 f) (qd_push hf (qd_70 ha) hA (fun oc' le' se' ol' h1 h2 => K oc' le' se' ol' h1 h2))) (fun z => absurd z (by omega)) (by rw [nI_clamp (by omega), hsz]))
  | x :: xs, i, acc, oc, se, ol, hi, hr, hb, ha, hA, e => by
    rw [List.length_cons] at hi
    have hx := hr x (List.mem_cons_self ..)
    have hr' : ∀ y, y ∈ xs → y < 256 := fun y hy => hr y (List.mem_cons_of_mem _ hy)
    refine And.intro (vp_in_nI hf (by omega)) (pk_le l.length i (fun z => absurd z (by omega)) (fun _ => ?_) (by rw [nI_clamp (by omega), hsz]))
    refine qd_keepOlder (qd_70 ha) hA (fun ol' h' => Exists.intro (acc.length + 1) ?_)
    exact qd_d47 (R := qd_ds acc x) (lo := acc) (by omega) hb.1 hx (qd_70 ha) (fun se' h2 => qd_d31 hf hsz hl K xs (i + 1) (qd_ds acc x) (nI acc.length) se' ol' (by omega) hr' hb.2 (qd_ds_fam ha x) h2 e) acc 0 [] se (Nat.zero_add _) ha.1 h' qd_fam_nil trivial rfl
theorem qd_xDual {g oc : Int32} {sz le se ol : Nat → Int32} {post : Int32 → SX → Prop} {f : Nat} {l : List Nat} (hf : f < 10) (hsz : sz f = nI l.length) (hl : qd_fam l) (hb : qd_at le (70 * f) l) (K : qd_out post f (qd_du [0] l) sz le) : wpX_dual post (nI (f + 1), g, oc, sz, le, se, ol) :=
  pk_le 1 (f + 1) (fun _ => nm_r (qd_sub1 f) (nm_e (Exists.intro (l.length + 1) (qd_d31 hf hsz (qd_70 hl) K l 0 [0] oc (upd se 0 0) ol (Nat.zero_add _) hl.1 hb qd_fam_0 ⟨pk_us, trivial⟩ rfl)))) (fun z => absurd z (by omega))
/-! given -/
theorem qd_gv24 {oc : Int32} {sz le ol : Nat → Int32} {post : Int32 → SX → Prop} {f : Nat} {l R : List Nat} (x1 : Int32) (hf : f < 10) (hsz : sz f = nI l.length) (hl : l.length ≤ 70) (K : qd_out post f R sz le) : ∀ (rest : List Nat) (i : Nat) (acc : List Nat) (se : Nat → Int32), i + rest.length = l.length → (∀ x, x ∈ rest → x < 256) → qd_at le (70 * f + i) rest → qd_fam acc → qd_at se 0 acc → qd_gl acc (qd_gv rest (qd_lo x1)) = R → wX_given_24 post x1 (nI f) (rest.length + 1) (nI i) (nI (f + 1)) (nI acc.length) oc sz le se ol
  | [], i, acc, se, hi, _, _, ha, hA, e => by
    have hi' : i = l.length := by simpa using hi
    have e' : acc = R := e
    subst e'
    exact And.intro (vp_in_nI hf (by omega)) (pk_le l.length i (fun _ => nm_r (qd_sub1 f) (qd_push hf (qd_70 ha) hA (fun oc' le' se' ol' h1 h2 => K oc' le' se' ol' h1 h2))) (fun z => absurd z (by omega)) (by rw [nI_clamp (by omega), hsz]))
  | x :: xs, i, acc, se, hi, hr, hb, ha, hA, e => by
    rw [List.length_cons] at hi
    have hx := hr x (List.mem_cons_self ..)
    have hr' : ∀ y, y ∈ xs → y < 256 := fun y hy => hr y (List.mem_cons_of_mem _ hy)
    have hv : le (70 * nI f + nI i).toNatClampNeg = nI x := by rw [qd_70c (by omega)]; exact hb.1
    have h256 : x &&& (255 ^^^ qd_lo x1) < 256 := qd_and256 _ hx
    refine And.intro (vp_in_nI hf (by omega)) (pk_le l.length i (fun z => absurd z (by omega)) (fun _ => And.intro (qd_70in (by omega)) ?_) (by rw [nI_clamp (by omega), hsz]))
    rw [hv, qd_andn hx]
    refine qd_gather ha h256 hA (fun se' h' => ?_)
    exact nm_r (nI_1 i) (qd_gv24 x1 hf hsz hl K xs (i + 1) _ se' (by omega) hr' hb.2 (qd_ga_fam ha h256) h' e)
theorem qd_xGiven {g oc : Int32} {sz le se ol : Nat → Int32} {post : Int32 → SX → Prop} {f : Nat} {l : List Nat} (x1 : Int32) (hf : f < 10) (hsz : sz f = nI l.length) (hl : qd_fam l) (hb : qd_at le (70 * f) l) (K : qd_out post f (qd_gl [] (qd_gv l (qd_lo x1))) sz le) : wpX_given post (nI (f + 1), g, oc, sz, le, se, ol) x1 :=
  pk_le 1 (f + 1) (fun _ => nm_r (qd_sub1 f) (Exists.intro (l.length + 1) (qd_gv24 x1 hf hsz (qd_70 hl) K l 0 [] se (Nat.zero_add _) hl.1 hb qd_fam_nil trivial rfl))) (fun z => absurd z (by omega))
/-! a family by its number from the top -/
theorem qd_xIs0 {g oc : Int32} {sz le se ol : Nat → Int32} {post : Int32 → Prop} {d : Nat} {x : Int32} (h : x < 0 ∨ nI d ≤ x) (hp : post 0) : wpX_isFamily post (nI d, g, oc, sz, le, se, ol) x :=
  br_c (fun _ => hp) (fun z => br_t (h.resolve_left z) hp)
theorem qd_xIs1 {g oc : Int32} {sz le se ol : Nat → Int32} {post : Int32 → Prop} {d k : Nat} (hd : d ≤ 10) (h : k < d) (hp : post 1) : wpX_isFamily post (nI d, g, oc, sz, le, se, ol) (nI k) :=
  br_f (nI_pos (by omega)) (pk_le d k (fun z => absurd z (by omega)) (fun _ => hp))
/-! copy -/
theorem qd_c40 {oc : Int32} {sz le ol : Nat → Int32} {post : Int32 → SX → Prop} {f d : Nat} {R : List Nat} (hf : f < 10) (hd : d < 10) (hR : R.length ≤ 70) (K : qd_out post d R sz le) : ∀ (rest pre : List Nat) (i : Nat) (se : Nat → Int32), pre.length = i → i + rest.length = R.length → qd_at le (70 * f + i) rest → qd_at se 0 pre → pre ++ rest = R → wX_copy_40 post (nI f) (nI d) (nI R.length) oc (rest.length + 1) (nI i) sz le se ol
  | [], pre, i, se, hi, hr, hs, hp, e => by
    have hr' : i = R.length := by simpa using hr
    rw [List.append_nil] at e
    subst e
    exact pk_le pre.length i (fun _ => qd_push hd hR hp (fun oc' le' se' ol' h1 h2 => K oc' le' se' ol' h1 h2)) (fun z => absurd z (by omega))
  | x :: xs, pre, i, se, hi, hr, hs, hp, e => by
    rw [List.length_cons] at hr
    have h1 : qd_at (upd se i (nI x)) 0 (pre ++ [x]) := by
      have h := qd_at_put (x := x) hp
      rw [Nat.zero_add, hi] at h
      exact h
    exact pk_le R.length i (fun z => absurd z (by omega)) (fun _ => And.intro (qd_70in (by omega)) (And.intro (vp_in_nI (by omega) (by omega)) (nm_r (e' := upd se i (nI x)) (by rw [qd_70c (by omega), nI_clamp (by omega), hs.1]) (nm_r (nI_1 i) (qd_c40 hf hd hR K xs (pre ++ [x]) (i + 1) _ (by rw [List.length_append, hi]; rfl) (by omega) hs.2 h1 (by rw [← e, List.append_assoc]; rfl))))))
theorem qd_xCopy {g oc : Int32} {sz le se ol : Nat → Int32} {post : Int32 → SX → Prop} {d k : Nat} {l : List Nat} (hk : k < d) (hd : d < 10) (hsz : sz (d - 1 - k) = nI l.length) (hl : qd_fam l) (hb : qd_at le (70 * (d - 1 - k)) l) (K : qd_out post d l sz le) : wpX_copy post (nI d, g, oc, sz, le, se, ol) (nI k) := by
  unfold wpX_copy
  dsimp only
  refine qd_xIs1 (by omega) hk ?_
  exact (br_f (by decide) (pk_lt d 10 (fun _ => nm_r (qd_subk hk) (And.intro (vp_in_nI (by omega) (by omega)) (nm_r (e' := nI l.length) (by rw [nI_clamp (by omega), hsz]) (Exists.intro (l.length + 1) (qd_c40 (by omega) hd (qd_70 hl) K l [] 0 se rfl (Nat.zero_add _) hb trivial rfl))))) (fun z => absurd z (by omega))))
theorem qd_xCopyN {g oc : Int32} {sz le se ol : Nat → Int32} {post : Int32 → SX → Prop} {d : Nat} {x : Int32} (h : x < 0 ∨ nI d ≤ x) (hp : post (-1) (nI d, g, oc, sz, le, se, ol)) : wpX_copy post (nI d, g, oc, sz, le, se, ol) x := by
  unfold wpX_copy
  dsimp only
  refine qd_xIs0 h ?_
  exact br_t rfl hp
theorem qd_xCopyF {g oc : Int32} {sz le se ol : Nat → Int32} {post : Int32 → SX → Prop} {d k : Nat} (hk : k < d) (hd : d = 10) (hp : post (-1) (nI d, g, oc, sz, le, se, ol)) : wpX_copy post (nI d, g, oc, sz, le, se, ol) (nI k) := by
  unfold wpX_copy
  dsimp only
  refine qd_xIs1 (by omega) hk ?_
  exact br_f (by decide) (pk_lt d 10 (fun z => absurd z (by omega)) (fun _ => hp))
end
section
/-! ===== the component's methods that only read ===== -/
section
variable {D g oc : Int32} {sz le se ol : Nat → Int32} {post : Int32 → Prop} {f : Nat} {l : List Nat}
theorem qd_en22 {q : Nat} {x2 : Int32} (hq : qd_lo x2 = q) (hf : f < 10) (hsz : sz f = nI l.length) (hl : l.length ≤ 70) : ∀ (rest : List Nat) (i : Nat), i + rest.length = l.length → (∀ x, x ∈ rest → x < 256) → qd_at le (70 * f + i) rest → post (qd_b (qd_up rest q)) → wX_enough_22 post x2 (nI f) D g oc sz le se ol (rest.length + 1) (nI i)
  | [], i, hi, _, _, hp => by
    have hi' : i = l.length := by simpa using hi
    exact And.intro (vp_in_nI hf (by omega)) (pk_le l.length i (fun _ => hp) (fun z => absurd z (by omega)) (by rw [nI_clamp (by omega), hsz]))
  | x :: xs, i, hi, hr, hb, hp => by
    rw [List.length_cons] at hi
    have hx := hr x (List.mem_cons_self ..)
    have hr' : ∀ y, y ∈ xs → y < 256 := fun y hy => hr y (List.mem_cons_of_mem _ hy)
    have hv : le (70 * nI f + nI i).toNatClampNeg = nI x := by rw [qd_70c (by omega)]; exact hb.1
    have hc : (le (70 * nI f + nI i).toNatClampNeg &&& (x2 ^^^ (-1))) = 0 ↔ qd_sb x q = true := by rw [hv, qd_andn0 hx, hq]
    have e : qd_up (x :: xs) q = (qd_sb x q || qd_up xs q) := rfl
    refine And.intro (vp_in_nI hf (by omega)) (pk_le l.length i (fun z => absurd z (by omega)) (fun _ => And.intro (qd_70in (by omega)) ?_) (by rw [nI_clamp (by omega), hsz]))
    by_cases c : qd_sb x q = true
    · rw [e, c, Bool.true_or] at hp
      exact br_t (hc.mpr c) hp
    · have c' : qd_sb x q = false := by simpa using c
      rw [e, c', Bool.false_or] at hp
      exact br_f (fun z => c (hc.mp z)) (nm_r (nI_1 i) (qd_en22 hq hf hsz hl xs (i + 1) (by omega) hr' hb.2 hp))
theorem qd_ls60 {J : Int32 → Prop} {i idx y : Nat} (hf : f < 10) (hsz : sz f = nI l.length) (hl : l.length ≤ 70) (hi : i < 70) (hidx : idx < 70) (hy : le (70 * f + i) = nI y) (hy' : y < 256) (h1 : qd_cn l y = idx → post (nI y)) (h2 : qd_cn l y ≠ idx → J (nI (i + 1))) : ∀ (rest : List Nat) (j c : Nat), j + rest.length = l.length → (∀ x, x ∈ rest → x < 256) → qd_at le (70 * f + j) rest → c + qd_cn rest y = qd_cn l y → wX_leastSet_60 post J (nI idx) (nI f) (nI i) D g oc sz le se ol (rest.length + 1) (nI c) (nI j)
  | [], j, c, hj, _, _, hc => by
    have hj' : j = l.length := by simpa using hj
    have hc' : c = qd_cn l y := hc
    have hcl := qd_cn_le l y
    have hv : le (70 * nI f + nI i).toNatClampNeg = nI y := by rw [qd_70c (by omega)]; exact hy
    exact And.intro (vp_in_nI hf (by omega)) (pk_le l.length j (fun _ => pk_eq c idx (fun z => And.intro (qd_70in (by omega)) (by rw [hv]; exact h1 (by omega))) (fun z => nm_r (nI_1 i) (h2 (by omega)))) (fun z => absurd z (by omega)) (by rw [nI_clamp (by omega), hsz]))
  | x :: xs, j, c, hj, hr, hb, hc => by
    rw [List.length_cons] at hj
    have hx := hr x (List.mem_cons_self ..)
    have hr' : ∀ y, y ∈ xs → y < 256 := fun y hy => hr y (List.mem_cons_of_mem _ hy)
    have hv : le (70 * nI f + nI i).toNatClampNeg = nI y := by rw [qd_70c (by omega)]; exact hy
    have hw : le (70 * nI f + nI j).toNatClampNeg = nI x := by rw [qd_70c (by omega)]; exact hb.1
    have e : qd_cn (x :: xs) y = qd_cn xs y + if decide (x < y) = true then 1 else 0 := List.countP_cons
    refine And.intro (vp_in_nI hf (by omega)) (pk_le l.length j (fun z => absurd z (by omega)) (fun _ => And.intro (qd_70in (by omega)) (And.intro (qd_70in (by omega)) ?_)) (by rw [nI_clamp (by omega), hsz]))
    refine pk_le y x (fun z => ?_) (fun z => ?_) hv hw
    · rw [if_neg (by rw [decide_eq_true_eq]; omega)] at e
      exact nm_r (Int32.add_zero (nI c)) (nm_r (nI_1 j) (qd_ls60 hf hsz hl hi hidx hy hy' h1 h2 xs (j + 1) c (by omega) hr' hb.2 (by omega)))
    · rw [if_pos (decide_eq_true z)] at e
      exact nm_r (nI_1 c) (nm_r (nI_1 j) (qd_ls60 hf hsz hl hi hidx hy hy' h1 h2 xs (j + 1) (c + 1) (by omega) hr' hb.2 (by omega)))
theorem qd_ls43 {idx : Nat} (hf : f < 10) (hsz : sz f = nI l.length) (hl : qd_fam l) (hb0 : qd_at le (70 * f) l) (hidx : idx < 70) (hp : ∀ y, y ∈ l → qd_cn l y = idx → post (nI y)) : ∀ (rest : List Nat) (i : Nat), i + rest.length = l.length → (∀ x, x ∈ rest → x ∈ l) → qd_at le (70 * f + i) rest → (∃ y, y ∈ rest ∧ qd_cn l y = idx) → wX_leastSet_43 post (nI idx) (nI f) D g oc sz le se ol (rest.length + 1) (nI i)
  | [], i, hi, _, _, hex => by
    obtain ⟨y, hy, _⟩ := hex
    cases hy
  | x :: xs, i, hi, hr, hb, hex => by
    have h70 := qd_70 hl
    rw [List.length_cons] at hi
    have hx := hr x (List.mem_cons_self ..)
    have hr' : ∀ y, y ∈ xs → y ∈ l := fun y hy => hr y (List.mem_cons_of_mem _ hy)
    refine And.intro (vp_in_nI hf (by omega)) (pk_le l.length i (fun z => absurd z (by omega)) (fun _ => Exists.intro (l.length + 1) ?_) (by rw [nI_clamp (by omega), hsz]))
    refine qd_ls60 hf hsz h70 (by omega) hidx hb.1 (hl.1 x hx) (hp x hx) (fun hne => ?_) l 0 0 (Nat.zero_add _) hl.1 hb0 (Nat.zero_add _)
    refine qd_ls43 hf hsz hl hb0 hidx hp xs (i + 1) (by omega) hr' hb.2 ?_
    obtain ⟨y, hy, hc⟩ := hex
    rcases List.mem_cons.mp hy with z | z
    · rw [z] at hc
      exact absurd hc hne
    · exact ⟨y, z, hc⟩
theorem qd_mt54 {J : Int32 → Prop} {a i x : Nat} {lb : List Nat} (ha : a < 10) (hf : f < 10) (hsz : sz f = nI lb.length) (hl : lb.length ≤ 70) (hi : i < 70) (hx : le (70 * a + i) = nI x) (hx' : x < 256) : ∀ (rest : List Nat) (j : Nat), j + rest.length = lb.length → (∀ x, x ∈ rest → x < 256) → qd_at le (70 * f + j) rest → (rest.all (fun b => qd_mt x b) = true → J (nI (i + 1))) → (rest.all (fun b => qd_mt x b) = false → post 0) → wX_meet_54 post J (nI a) (nI f) (nI i) D g oc sz le se ol (rest.length + 1) (nI j)
  | [], j, hj, _, _, h1, _ => by
    have hj' : j = lb.length := by simpa using hj
    exact And.intro (vp_in_nI hf (by omega)) (pk_le lb.length j (fun _ => nm_r (nI_1 i) (h1 rfl)) (fun z => absurd z (by omega)) (by rw [nI_clamp (by omega), hsz]))
  | y :: ys, j, hj, hr, hb, h1, h2 => by
    rw [List.length_cons] at hj
    have hy := hr y (List.mem_cons_self ..)
    have hr' : ∀ z, z ∈ ys → z < 256 := fun z hz => hr z (List.mem_cons_of_mem _ hz)
    have hv : le (70 * nI a + nI i).toNatClampNeg = nI x := by rw [qd_70c (by omega)]; exact hx
    have hw : le (70 * nI f + nI j).toNatClampNeg = nI y := by rw [qd_70c (by omega)]; exact hb.1
    have hc : (le (70 * nI a + nI i).toNatClampNeg &&& le (70 * nI f + nI j).toNatClampNeg) = 0 ↔ qd_mt x y = false := by rw [hv, hw, qd_and0 hx']
    rw [List.all_cons] at h1 h2
    refine And.intro (vp_in_nI hf (by omega)) (pk_le lb.length j (fun z => absurd z (by omega)) (fun _ => And.intro (qd_70in (by omega)) (And.intro (qd_70in (by omega)) ?_)) (by rw [nI_clamp (by omega), hsz]))
    cases c : qd_mt x y
    · exact br_t (hc.mpr c) (h2 (by rw [c, Bool.false_and]))
    · rw [c, Bool.true_and] at h1 h2
      exact br_f (fun z => by rw [hc.mp z] at c; cases c) (nm_r (nI_1 j) (qd_mt54 ha hf hsz hl hi hx hx' ys (j + 1) (by omega) hr' hb.2 h1 h2))
theorem qd_mt40 {a : Nat} {la lb : List Nat} (ha : a < 10) (hsa : sz a = nI la.length) (hla : la.length ≤ 70) (hf : f < 10) (hsz : sz f = nI lb.length) (hlb : qd_fam lb) (hbl : qd_at le (70 * f) lb) : ∀ (rest : List Nat) (i : Nat), i + rest.length = la.length → (∀ x, x ∈ rest → x < 256) → qd_at le (70 * a + i) rest → post (qd_b (qd_mtx rest lb)) → wX_meet_40 post (nI a) (nI f) D g oc sz le se ol (rest.length + 1) (nI i)
  | [], i, hi, _, _, hp => by
    have hi' : i = la.length := by simpa using hi
    exact And.intro (vp_in_nI ha (by omega)) (pk_le la.length i (fun _ => hp) (fun z => absurd z (by omega)) (by rw [nI_clamp (by omega), hsa]))
  | x :: xs, i, hi, hr, hb, hp => by
    rw [List.length_cons] at hi
    have hx := hr x (List.mem_cons_self ..)
    have hr' : ∀ z, z ∈ xs → z < 256 := fun z hz => hr z (List.mem_cons_of_mem _ hz)
    have e : qd_mtx (x :: xs) lb = (lb.all (fun b => qd_mt x b) && qd_mtx xs lb) := rfl
    refine And.intro (vp_in_nI ha (by omega)) (pk_le la.length i (fun z => absurd z (by omega)) (fun _ => Exists.intro (lb.length + 1) ?_) (by rw [nI_clamp (by omega), hsa]))
    refine qd_mt54 ha hf hsz (qd_70 hlb) (by omega) hb.1 hx lb 0 (Nat.zero_add _) hlb.1 hbl (fun c => ?_) (fun c => ?_)
    · rw [e, c, Bool.true_and] at hp
      exact qd_mt40 ha hsa hla hf hsz hlb hbl xs (i + 1) (by omega) hr' hb.2 hp
    · rw [e, c, Bool.false_and] at hp
      exact hp
theorem qd_ma2 {s : Nat} (hs : s < 256) (hf : f < 10) (hsz : sz f = nI l.length) (hl : l.length ≤ 70) : ∀ (rest : List Nat) (i : Nat), i + rest.length = l.length → (∀ x, x ∈ rest → x < 256) → qd_at le (70 * f + i) rest → post (qd_b (rest.all (fun x => qd_mt x s))) → wX_meetsAll_2 post (nI f) (nI s) D g oc sz le se ol (rest.length + 1) (nI i)
  | [], i, hi, _, _, hp => by
    have hi' : i = l.length := by simpa using hi
    exact And.intro (vp_in_nI hf (by omega)) (pk_le l.length i (fun _ => hp) (fun z => absurd z (by omega)) (by rw [nI_clamp (by omega), hsz]))
  | x :: xs, i, hi, hr, hb, hp => by
    rw [List.length_cons] at hi
    have hx := hr x (List.mem_cons_self ..)
    have hr' : ∀ y, y ∈ xs → y < 256 := fun y hy => hr y (List.mem_cons_of_mem _ hy)
    have hv : le (70 * nI f + nI i).toNatClampNeg = nI x := by rw [qd_70c (by omega)]; exact hb.1
    have hc : (le (70 * nI f + nI i).toNatClampNeg &&& nI s) = 0 ↔ qd_mt x s = false := by rw [hv, qd_and0 hx]
    rw [List.all_cons] at hp
    refine And.intro (vp_in_nI hf (by omega)) (pk_le l.length i (fun z => absurd z (by omega)) (fun _ => And.intro (qd_70in (by omega)) ?_) (by rw [nI_clamp (by omega), hsz]))
    cases c : qd_mt x s
    · rw [c, Bool.false_and] at hp
      exact br_t (hc.mpr c) hp
    · rw [c, Bool.true_and] at hp
      exact br_f (fun z => by rw [hc.mp z] at c; cases c) (nm_r (nI_1 i) (qd_ma2 hs hf hsz hl xs (i + 1) (by omega) hr' hb.2 hp))
theorem qd_meetsAll {s : Nat} (hs : s < 256) (hf : f < 10) (hsz : sz f = nI l.length) (hl : qd_fam l) (hb : qd_at le (70 * f) l) (hp : post (qd_b (l.all (fun x => qd_mt x s)))) : wpX_meetsAll post (D, g, oc, sz, le, se, ol) (nI f) (nI s) :=
  Exists.intro (l.length + 1) (qd_ma2 hs hf hsz (qd_70 hl) l 0 (Nat.zero_add _) hl.1 hb hp)
theorem qd_ws25 (hf : f < 10) (hsz : sz f = nI l.length) (hl : qd_fam l) (hb : qd_at le (70 * f) l) : ∀ (e i b : Nat), i + e = 256 → b ≤ 9 → post (nI (qd_wf (fun s => l.all (fun x => qd_mt x s)) e i b)) → wX_withstand_25 post (nI f) D g oc sz le se ol (e + 1) (nI b) (nI i)
  | 0, i, b, hi, hb9, hp => pk_le 256 i (fun _ => hp) (fun z => absurd z (by omega))
  | e + 1, i, b, hi, hb9, hp => by
    have h8 := qd_on_le i
    refine pk_le 256 i (fun z => absurd z (by omega)) (fun _ => qd_xones (by omega) ?_)
    refine pk_le b (qd_on i) (fun z => ?_) (fun z => qd_meetsAll (by omega) hf hsz hl hb ?_)
    · rw [qd_wf_f (fun w => absurd w.2 (by omega))] at hp
      exact nm_r (nI_1 i) (qd_ws25 hf hsz hl hb e (i + 1) b (by omega) hb9 hp)
    · refine br_c (fun c => ?_) (fun c => ?_)
      · have c' := qd_b0.mp c
        rw [qd_wf_f (fun w => by rw [c'] at w; cases w.1)] at hp
        exact nm_r (nI_1 i) (qd_ws25 hf hsz hl hb e (i + 1) b (by omega) hb9 hp)
      · have c' : l.all (fun x => qd_mt x i) = true := by
          cases w : l.all (fun x => qd_mt x i)
          · exact absurd (qd_b0.mpr w) c
          · rfl
        rw [qd_wf_t c' z] at hp
        exact nm_r (nI_1 i) (qd_ws25 hf hsz hl hb e (i + 1) (qd_on i) (by omega) (by omega) hp)
end
section
variable {g oc : Int32} {sz le se ol : Nat → Int32} {post : Int32 → Prop} {d k : Nat} {l : List Nat}
theorem qd_xEnough (x2 : Int32) (hk : k < d) (hd : d ≤ 10) (hsz : sz (d - 1 - k) = nI l.length) (hl : qd_fam l) (hb : qd_at le (70 * (d - 1 - k)) l) (hp : post (qd_b (qd_up l (qd_lo x2)))) : wpX_enough post (nI d, g, oc, sz, le, se, ol) (nI k) x2 := by
  unfold wpX_enough
  dsimp only
  refine qd_xIs1 hd hk ?_
  exact (br_f (by decide) (nm_r (qd_subk hk) (Exists.intro (l.length + 1) (qd_en22 rfl (by omega) hsz (qd_70 hl) l 0 (Nat.zero_add _) hl.1 hb hp))))
theorem qd_xLeastSets (hk : k < d) (hd : d ≤ 10) (hsz : sz (d - 1 - k) = nI l.length) (hp : post (nI l.length)) : wpX_leastSets post (nI d, g, oc, sz, le, se, ol) (nI k) := by
  unfold wpX_leastSets
  dsimp only
  refine qd_xIs1 hd hk ?_
  refine br_f (by decide) ?_
  rw [qd_subk hk, nI_clamp (by omega), hsz]
  exact And.intro (vp_in_nI (by omega) (by omega)) hp
theorem qd_xLeastSet {idx : Nat} (hk : k < d) (hd : d ≤ 10) (hidx : idx < l.length) (hsz : sz (d - 1 - k) = nI l.length) (hl : qd_fam l) (hb : qd_at le (70 * (d - 1 - k)) l) (hex : ∃ y, y ∈ l ∧ qd_cn l y = idx) (hp : ∀ y, y ∈ l → qd_cn l y = idx → post (nI y)) : wpX_leastSet post (nI d, g, oc, sz, le, se, ol) (nI k) (nI idx) := by
  have h70 := qd_70 hl
  unfold wpX_leastSet
  dsimp only
  refine qd_xIs1 hd hk ?_
  refine br_f (by decide) (br_f (nI_pos (by omega)) ?_)
  rw [qd_subk hk, nI_clamp (by omega), hsz]
  exact And.intro (vp_in_nI (by omega) (by omega)) (pk_lt idx l.length (fun _ => nm_e (Exists.intro (l.length + 1) (qd_ls43 (by omega) hsz hl hb (by omega) hp l 0 (Nat.zero_add _) (fun _ h => h) hb hex))) (fun z => absurd z (by omega)))
theorem qd_xLeastSetN {x2 : Int32} (hk : k < d) (hd : d ≤ 10) (hsz : sz (d - 1 - k) = nI l.length) (hx : x2 < 0 ∨ nI l.length ≤ x2) (hp : post (-1)) : wpX_leastSet post (nI d, g, oc, sz, le, se, ol) (nI k) x2 := by
  unfold wpX_leastSet
  dsimp only
  refine qd_xIs1 hd hk ?_
  refine br_f (by decide) (br_c (fun _ => hp) (fun z => ?_))
  rw [qd_subk hk, nI_clamp (by omega), hsz]
  exact And.intro (vp_in_nI (by omega) (by omega)) (br_f (Int32.not_lt.mpr (hx.resolve_left z)) hp)
theorem qd_xMeet {m : Nat} {lb : List Nat} (hk : k < d) (hm : m < d) (hd : d ≤ 10) (hsz : sz (d - 1 - k) = nI l.length) (hl : qd_fam l) (hb : qd_at le (70 * (d - 1 - k)) l) (hsz' : sz (d - 1 - m) = nI lb.length) (hl' : qd_fam lb) (hb' : qd_at le (70 * (d - 1 - m)) lb) (hp : post (qd_b (qd_mtx l lb))) : wpX_meet post (nI d, g, oc, sz, le, se, ol) (nI k) (nI m) := by
  unfold wpX_meet
  dsimp only
  refine qd_xIs1 hd hk ?_
  refine br_f (by decide) ?_
  refine qd_xIs1 hd hm ?_
  exact (br_f (by decide) (nm_r (qd_subk hk) (nm_r (qd_subk hm) (Exists.intro (l.length + 1) (qd_mt40 (by omega) hsz (qd_70 hl) (by omega) hsz' hl' hb' l 0 (Nat.zero_add _) hl.1 hb hp)))))
theorem qd_xWithstand (hk : k < d) (hd : d ≤ 10) (hsz : sz (d - 1 - k) = nI l.length) (hl : qd_fam l) (hb : qd_at le (70 * (d - 1 - k)) l) (hp : post (nI (qd_wf (fun s => l.all (fun x => qd_mt x s)) 256 0 9))) : wpX_withstand post (nI d, g, oc, sz, le, se, ol) (nI k) := by
  unfold wpX_withstand
  dsimp only
  refine qd_xIs1 hd hk ?_
  exact (br_f (by decide) (nm_r (qd_subk hk) (Exists.intro 257 (qd_ws25 (by omega) hsz hl hb 256 0 9 rfl (Nat.le_refl 9) hp))))
theorem qd_xenoughN {x : Int32} (x2 : Int32) (h : x < 0 ∨ nI d ≤ x) (hp : post (-1)) : wpX_enough post (nI d, g, oc, sz, le, se, ol) x x2 := by
  unfold wpX_enough
  dsimp only
  refine qd_xIs0 h ?_
  exact br_t rfl hp
theorem qd_xleastSetsN {x : Int32} (h : x < 0 ∨ nI d ≤ x) (hp : post (-1)) : wpX_leastSets post (nI d, g, oc, sz, le, se, ol) x := by
  unfold wpX_leastSets
  dsimp only
  refine qd_xIs0 h ?_
  exact br_t rfl hp
theorem qd_xleastSetN {x : Int32} (x2 : Int32) (h : x < 0 ∨ nI d ≤ x) (hp : post (-1)) : wpX_leastSet post (nI d, g, oc, sz, le, se, ol) x x2 := by
  unfold wpX_leastSet
  dsimp only
  refine qd_xIs0 h ?_
  exact br_t rfl hp
theorem qd_xwithstandN {x : Int32} (h : x < 0 ∨ nI d ≤ x) (hp : post (-1)) : wpX_withstand post (nI d, g, oc, sz, le, se, ol) x := by
  unfold wpX_withstand
  dsimp only
  refine qd_xIs0 h ?_
  exact br_t rfl hp
theorem qd_xmeetN {x : Int32} (x2 : Int32) (h : x < 0 ∨ nI d ≤ x) (hp : post (-1)) : wpX_meet post (nI d, g, oc, sz, le, se, ol) x x2 := by
  unfold wpX_meet
  dsimp only
  refine qd_xIs0 h ?_
  exact br_t rfl hp
theorem qd_xmeetM {x2 : Int32} (hk : k < d) (hd : d ≤ 10) (h : x2 < 0 ∨ nI d ≤ x2) (hp : post (-1)) : wpX_meet post (nI d, g, oc, sz, le, se, ol) (nI k) x2 := by
  unfold wpX_meet
  dsimp only
  refine qd_xIs1 hd hk ?_
  refine br_f (by decide) ?_
  refine qd_xIs0 h ?_
  exact br_t rfl hp
end
end
section
/-! ===== the reference ===== -/
theorem qd_yones4 {post : Int32 → Prop} {n : Nat} (hn : n < 256) (hp : post (nI (qd_on n))) : ∀ d i, i + d = 8 → wY_ones_4 post (nI n) (d + 1) (nI (qd_onk n i)) (nI i)
  | 0, i, h => by
    obtain rfl : i = 8 := by omega
    exact pk_le 8 8 (fun _ => hp) (fun z => absurd z (by omega))
  | d + 1, i, h => pk_le 8 i (fun z => absurd z (by omega)) (fun _ => nm_r (e' := nI (qd_onk n (i + 1))) (by rw [qd_ybit hn (by omega), nI_add]; rfl) (nm_r (nI_1 i) (qd_yones4 hn hp d (i + 1) (by omega))))
theorem qd_yones {post : Int32 → Prop} {n : Nat} (hn : n < 256) (hp : post (nI (qd_on n))) : wpY_ones post (nI n) := Exists.intro 9 (qd_yones4 hn hp 8 0 rfl)
/-- what a method leaves that sets the row at height d -/
def qd_yout (post : Int32 → SY → Prop) (d : Nat) (P : Nat → Bool) (inn : Nat → Int32) : Prop := ∀ inn', qd_row inn' (256 * d) P → (∀ j, j < 256 * d → inn' j = inn j) → post (nI (d + 1)) (nI (d + 1), inn')
theorem qd_st1 {P : Nat → Bool} {inn : Nat → Int32} {o i : Nat} {b : Bool} (h : ∀ s, s < i → inn (o + s) = qd_b (P s)) (e : P i = b) : ∀ s, s < i + 1 → upd inn (o + i) (qd_b b) (o + s) = qd_b (P s) := by
  intro s hs
  by_cases z : s = i
  · subst z
    rw [pk_us, e]
  · rw [pk_un (by omega)]
    exact h s (by omega)
theorem qd_st2 {inn inn0 : Nat → Int32} {o p i : Nat} {x : Int32} (hop : p ≤ o) (h : ∀ j, j < p → inn j = inn0 j) : ∀ j, j < p → upd inn (o + i) x j = inn0 j := by
  intro j hj
  rw [pk_un (by omega)]
  exact h j hj
theorem qd_y23 {post : Int32 → SY → Prop} {c q d : Nat} {x2 : Int32} {inn0 : Nat → Int32} (hc : c ≤ 8) (hd : d < 10) (hq : qd_lo x2 = q) (K : qd_yout post d (fun s => decide (c ≤ qd_on (s &&& q))) inn0) : ∀ (e i : Nat) (inn : Nat → Int32), i + e = 256 → (∀ s, s < i → inn (256 * d + s) = qd_b (decide (c ≤ qd_on (s &&& q)))) → (∀ j, j < 256 * d → inn j = inn0 j) → wY_atLeast_23 post (nI c) x2 (nI d) (e + 1) (nI i) inn
  | 0, i, inn, hi, hr, hb => by
    obtain rfl : i = 256 := by omega
    exact pk_le 256 256 (fun _ => nm_r (nI_1 d) (K inn hr hb)) (fun z => absurd z (by omega))
  | e + 1, i, inn, hi, hr, hb => by
    have h8 := qd_on_le (i &&& q)
    refine pk_le 256 i (fun z => absurd z (by omega)) (fun _ => ?_)
    rw [qd_andx (by omega), hq]
    refine qd_yones (qd_and256 _ (by omega)) ?_
    refine pk_lt (qd_on (i &&& q)) c (fun z => And.intro (qd_256in (by omega)) (nm_r (e' := upd inn (256 * d + i) (qd_b false)) ?_ (nm_r (nI_1 i) (qd_y23 hc hd hq K e (i + 1) _ (by omega) (qd_st1 (P := fun s => decide (c ≤ qd_on (s &&& q))) hr (decide_eq_false (by omega))) (qd_st2 (Nat.le_refl _) hb))))) (fun z => And.intro (qd_256in (by omega)) (nm_r (e' := upd inn (256 * d + i) (qd_b true)) ?_ (nm_r (nI_1 i) (qd_y23 hc hd hq K e (i + 1) _ (by omega) (qd_st1 (P := fun s => decide (c ≤ qd_on (s &&& q))) hr (decide_eq_true z)) (qd_st2 (Nat.le_refl _) hb)))))
    · rw [qd_256c (by omega), show vp_nar .boolean 0 = qd_b false from rfl]
    · rw [qd_256c (by omega), show vp_nar .boolean 1 = qd_b true from rfl]
theorem qd_yAtLeast {post : Int32 → SY → Prop} {c d : Nat} {inn : Nat → Int32} (x2 : Int32) (hc : c ≤ 8) (hd : d < 10) (K : qd_yout post d (fun s => decide (c ≤ qd_on (s &&& qd_lo x2))) inn) : wpY_atLeast post (nI d, inn) (nI c) x2 :=
  br_f (nI_pos (by omega)) (pk_lt 8 c (fun z => absurd z (by omega)) (fun _ => pk_eq d 10 (fun z => absurd z (by omega)) (fun _ => Exists.intro 257 (qd_y23 hc hd rfl K 256 0 inn rfl (fun s h => absurd h (Nat.not_lt_zero s)) (fun _ _ => rfl)))))
/-! join -/
theorem qd_b1n : ¬ qd_b true = 0 := by decide
theorem qd_yj22 {post : Int32 → SY → Prop} {x1 : Int32} {d : Nat} {A B N : Nat → Bool} {inn0 : Nat → Int32} (hN : ∀ s, N s = if x1 = 0 then (A s || B s) else (A s && B s)) (hd : d + 1 < 10) (K : qd_yout post d N inn0) : ∀ (e i : Nat) (inn : Nat → Int32), i + e = 256 → (∀ s, s < i → inn (256 * d + s) = qd_b (N s)) → (∀ s, i ≤ s → s < 256 → inn (256 * d + s) = qd_b (A s)) → qd_row inn (256 * (d + 1)) B → (∀ j, j < 256 * d → inn j = inn0 j) → wY_join_22 post x1 (nI (d + 1)) (e + 1) (nI i) inn
  | 0, i, inn, hi, hr, _, _, hb => by
    obtain rfl : i = 256 := by omega
    exact pk_le 256 256 (fun _ => K inn hr hb) (fun z => absurd z (by omega))
  | e + 1, i, inn, hi, hr, hA, hB, hb => by
    have hin : vp_in (256 * (nI (d + 1) - 1) + nI i) 2816 := by rw [qd_sub1]; exact qd_256in (by omega)
    have hcl : (256 * (nI (d + 1) - 1) + nI i).toNatClampNeg = 256 * d + i := by rw [qd_sub1]; exact qd_256c (by omega)
    have hva : inn (256 * (nI (d + 1) - 1) + nI i).toNatClampNeg = qd_b (A i) := by rw [hcl]; exact hA i (Nat.le_refl i) (by omega)
    have hvb : inn (256 * nI (d + 1) + nI i).toNatClampNeg = qd_b (B i) := by rw [qd_256c (by omega)]; exact hB i (by omega)
    have ih : ∀ b, N i = b → wY_join_22 post x1 (nI (d + 1)) (e + 1) (nI (i + 1)) (upd inn (256 * d + i) (qd_b b)) := fun b hN' =>
      qd_yj22 hN hd K e (i + 1) _ (by omega) (qd_st1 hr hN') (fun s h1 h2 => by rw [pk_un (by omega)]; exact hA s (by omega) h2) (qd_row_keep hB (fun j h1 h2 => pk_un (by omega))) (qd_st2 (Nat.le_refl _) hb)
    have e0 : upd inn (256 * (nI (d + 1) - 1) + nI i).toNatClampNeg (vp_nar .boolean 0) = upd inn (256 * d + i) (qd_b false) := by rw [hcl, show vp_nar .boolean 0 = qd_b false from rfl]
    have e1 : upd inn (256 * (nI (d + 1) - 1) + nI i).toNatClampNeg (vp_nar .boolean 1) = upd inn (256 * d + i) (qd_b true) := by rw [hcl, show vp_nar .boolean 1 = qd_b true from rfl]
    have hNi := hN i
    refine pk_le 256 i (fun z => absurd z (by omega)) (fun _ => And.intro hin (nm_r hva (And.intro (qd_256in (by omega)) (nm_r hvb ?_))))
    by_cases c : x1 = 0
    · rw [if_pos c] at hNi
      cases cA : A i <;> cases cB : B i <;> rw [cA, cB] at hNi
      · exact br_t c (br_t rfl (br_t rfl (And.intro hin (nm_r e0 (nm_r (nI_1 i) (ih _ hNi))))))
      · exact br_t c (br_t rfl (br_f qd_b1n (And.intro hin (nm_r e1 (nm_r (nI_1 i) (ih _ hNi))))))
      · exact br_t c (br_f qd_b1n (And.intro hin (nm_r e1 (nm_r (nI_1 i) (ih _ hNi)))))
      · exact br_t c (br_f qd_b1n (And.intro hin (nm_r e1 (nm_r (nI_1 i) (ih _ hNi)))))
    · rw [if_neg c] at hNi
      cases cA : A i <;> cases cB : B i <;> rw [cA, cB] at hNi
      · exact br_f c (br_t rfl (And.intro hin (nm_r e0 (nm_r (nI_1 i) (ih _ hNi)))))
      · exact br_f c (br_t rfl (And.intro hin (nm_r e0 (nm_r (nI_1 i) (ih _ hNi)))))
      · exact br_f c (br_f qd_b1n (br_t rfl (And.intro hin (nm_r e0 (nm_r (nI_1 i) (ih _ hNi))))))
      · exact br_f c (br_f qd_b1n (br_f qd_b1n (And.intro hin (nm_r e1 (nm_r (nI_1 i) (ih _ hNi))))))
theorem qd_yJoin {post : Int32 → SY → Prop} {x1 : Int32} {d : Nat} {A B N : Nat → Bool} {inn : Nat → Int32} (hN : ∀ s, N s = if x1 = 0 then (A s || B s) else (A s && B s)) (hd : d + 1 < 10) (hA : qd_row inn (256 * d) A) (hB : qd_row inn (256 * (d + 1)) B) (K : qd_yout post d N inn) : wpY_join post (nI (d + 2), inn) x1 :=
  pk_le 2 (d + 2) (fun _ => nm_r (qd_sub1 (d + 1)) (Exists.intro 257 (qd_yj22 hN hd K 256 0 inn rfl (fun s h => absurd h (Nat.not_lt_zero s)) (fun s _ h => hA s h) hB (fun _ _ => rfl)))) (fun z => absurd z (by omega))
/-! hits, takeOver, dual, given -/
theorem qd_h2 {post : Int32 → Prop} {H : Int32} {f s : Nat} {P : Nat → Bool} {inn : Nat → Int32} (hf : f < 10) (hs : s < 256) (hrow : qd_row inn (256 * f) P) : ∀ (e i : Nat), i + e = 256 → post (qd_b (qd_fa (fun x => !(P x) || qd_mt x s) e i)) → wY_hits_2 post (nI f) (nI s) H inn (e + 1) (nI i)
  | 0, i, hi, hp => pk_le 256 i (fun _ => hp) (fun z => absurd z (by omega))
  | e + 1, i, hi, hp => by
    have hv : inn (256 * nI f + nI i).toNatClampNeg = qd_b (P i) := by rw [qd_256c (by omega)]; exact hrow i (by omega)
    refine pk_le 256 i (fun z => absurd z (by omega)) (fun _ => And.intro (qd_256in (by omega)) ?_)
    rw [hv]
    cases c : P i
    · rw [qd_fa_t (by show (!(P i) || qd_mt i s) = true; rw [c]; rfl)] at hp
      exact br_t rfl (nm_r (nI_1 i) (qd_h2 hf hs hrow e (i + 1) (by omega) hp))
    · refine br_f qd_b1n ?_
      cases c2 : qd_mt i s
      · rw [qd_fa_f (by show (!(P i) || qd_mt i s) = false; rw [c, c2]; rfl)] at hp
        exact br_t ((qd_and0 (by omega)).mpr c2) hp
      · rw [qd_fa_t (by show (!(P i) || qd_mt i s) = true; rw [c, c2]; rfl)] at hp
        exact br_f (fun z => by rw [(qd_and0 (by omega)).mp z] at c2; cases c2) (nm_r (nI_1 i) (qd_h2 hf hs hrow e (i + 1) (by omega) hp))
theorem qd_hits {post : Int32 → Prop} {H : Int32} {f s : Nat} {P : Nat → Bool} {inn : Nat → Int32} (hf : f < 10) (hs : s < 256) (hrow : qd_row inn (256 * f) P) (hp : post (qd_b (qd_hit P s))) : wpY_hits post (H, inn) (nI f) (nI s) := Exists.intro 257 (qd_h2 hf hs hrow 256 0 rfl hp)
theorem qd_to2 {post : SY → Prop} {d : Nat} {P : Nat → Bool} {inn0 : Nat → Int32} (hd : d < 10) (K : ∀ inn', qd_row inn' (256 * d) P → (∀ j, j < 256 * d → inn' j = inn0 j) → post (nI (d + 1), inn')) : ∀ (e i : Nat) (inn : Nat → Int32), i + e = 256 → qd_row inn 2560 P → (∀ s, s < i → inn (256 * d + s) = qd_b (P s)) → (∀ j, j < 256 * d → inn j = inn0 j) → wY_takeOver_2 post (nI (d + 1)) (e + 1) (nI i) inn
  | 0, i, inn, hi, _, hr, hb => by
    obtain rfl : i = 256 := by omega
    exact pk_le 256 256 (fun _ => K inn hr hb) (fun z => absurd z (by omega))
  | e + 1, i, inn, hi, hrow, hr, hb => by
    have hin : vp_in (256 * (nI (d + 1) - 1) + nI i) 2816 := by rw [qd_sub1]; exact qd_256in (by omega)
    have hcl : (256 * (nI (d + 1) - 1) + nI i).toNatClampNeg = 256 * d + i := by rw [qd_sub1]; exact qd_256c (by omega)
    have hst : upd inn (256 * (nI (d + 1) - 1) + nI i).toNatClampNeg (vp_nar .boolean (inn (2560 + nI i).toNatClampNeg)) = upd inn (256 * d + i) (qd_b (P i)) := by rw [hcl, qd_2560c (by omega), hrow i (by omega), qd_b_nar]
    exact pk_le 256 i (fun z => absurd z (by omega)) (fun _ => And.intro (qd_2560in (by omega)) (And.intro hin (nm_r hst (nm_r (nI_1 i) (qd_to2 hd K e (i + 1) _ (by omega) (qd_row_keep hrow (fun j h1 h2 => pk_un (by omega))) (qd_st1 hr rfl) (qd_st2 (Nat.le_refl _) hb))))))
theorem qd_takeOver {post : SY → Prop} {d : Nat} {P : Nat → Bool} {inn0 inn : Nat → Int32} (hd : d < 10) (K : ∀ inn', qd_row inn' (256 * d) P → (∀ j, j < 256 * d → inn' j = inn0 j) → post (nI (d + 1), inn')) (hrow : qd_row inn 2560 P) (hb : ∀ j, j < 256 * d → inn j = inn0 j) : wpY_takeOver post (nI (d + 1), inn) :=
  Exists.intro 257 (qd_to2 hd K 256 0 inn rfl hrow (fun s h => absurd h (Nat.not_lt_zero s)) hb)
theorem qd_yd11 {post : Int32 → SY → Prop} {d : Nat} {P : Nat → Bool} {inn0 : Nat → Int32} (hd : d < 10) (K : qd_yout post d (qd_hit P) inn0) : ∀ (e i : Nat) (inn : Nat → Int32), i + e = 256 → qd_row inn (256 * d) P → (∀ s, s < i → inn (2560 + s) = qd_b (qd_hit P s)) → (∀ j, j < 256 * d → inn j = inn0 j) → wY_dual_11 post (nI (d + 1)) (e + 1) (nI i) inn
  | 0, i, inn, hi, _, hr, hb => by
    obtain rfl : i = 256 := by omega
    exact pk_le 256 256 (fun _ => qd_takeOver hd (fun inn' h1 h2 => K inn' h1 h2) hr hb) (fun z => absurd z (by omega))
  | e + 1, i, inn, hi, hrow, hr, hb => by
    refine pk_le 256 i (fun z => absurd z (by omega)) (fun _ => ?_)
    rw [qd_sub1]
    refine qd_hits hd (by omega) hrow ?_
    refine And.intro (qd_2560in (by omega)) (nm_r (e' := upd inn (2560 + i) (qd_b (qd_hit P i))) ?_ (nm_r (nI_1 i) (qd_yd11 hd K e (i + 1) _ (by omega) (qd_row_keep hrow (fun j h1 h2 => pk_un (by omega))) (qd_st1 hr rfl) (qd_st2 (by omega) hb))))
    rw [qd_2560c (by omega), qd_b_nar]
theorem qd_yDual {post : Int32 → SY → Prop} {d : Nat} {P : Nat → Bool} {inn : Nat → Int32} (hd : d < 10) (hrow : qd_row inn (256 * d) P) (K : qd_yout post d (qd_hit P) inn) : wpY_dual post (nI (d + 1), inn) :=
  br_f (nI_ne0 (by omega) (by omega)) (Exists.intro 257 (qd_yd11 hd K 256 0 inn rfl hrow (fun s h => absurd h (Nat.not_lt_zero s)) (fun _ _ => rfl)))
theorem qd_yg11 {post : Int32 → SY → Prop} {x1 : Int32} {d q : Nat} {P : Nat → Bool} {inn0 : Nat → Int32} (hd : d < 10) (hq : qd_lo x1 = q) (K : qd_yout post d (fun s => P (s ||| q)) inn0) : ∀ (e i : Nat) (inn : Nat → Int32), i + e = 256 → qd_row inn (256 * d) P → (∀ s, s < i → inn (2560 + s) = qd_b (P (s ||| q))) → (∀ j, j < 256 * d → inn j = inn0 j) → wY_given_11 post x1 (nI (d + 1)) (e + 1) (nI i) inn
  | 0, i, inn, hi, _, hr, hb => by
    obtain rfl : i = 256 := by omega
    exact pk_le 256 256 (fun _ => qd_takeOver (P := fun s => P (s ||| q)) hd (fun inn' h1 h2 => K inn' h1 h2) hr hb) (fun z => absurd z (by omega))
  | e + 1, i, inn, hi, hrow, hr, hb => by
    have hq' := qd_lo_lt x1
    have h256 : i ||| q < 256 := qd_or256 (by omega) (by omega)
    have ei : 256 * (nI (d + 1) - 1) + (nI i ||| (x1 &&& 255)) = 256 * nI d + nI (i ||| q) := by rw [qd_sub1, qd_lo_eq, qd_or, hq]
    have hin : vp_in (256 * (nI (d + 1) - 1) + (nI i ||| (x1 &&& 255))) 2816 := by rw [ei]; exact qd_256in (by omega)
    have hst : upd inn (2560 + nI i).toNatClampNeg (vp_nar .boolean (inn (256 * (nI (d + 1) - 1) + (nI i ||| (x1 &&& 255))).toNatClampNeg)) = upd inn (2560 + i) (qd_b (P (i ||| q))) := by rw [ei, qd_256c (by omega), hrow _ h256, qd_2560c (by omega), qd_b_nar]
    exact pk_le 256 i (fun z => absurd z (by omega)) (fun _ => And.intro hin (And.intro (qd_2560in (by omega)) (nm_r hst (nm_r (nI_1 i) (qd_yg11 hd hq K e (i + 1) _ (by omega) (qd_row_keep hrow (fun j h1 h2 => pk_un (by omega))) (qd_st1 (P := fun s => P (s ||| q)) hr rfl) (qd_st2 (by omega) hb))))))
theorem qd_yGiven {post : Int32 → SY → Prop} {d : Nat} {P : Nat → Bool} {inn : Nat → Int32} (x1 : Int32) (hd : d < 10) (hrow : qd_row inn (256 * d) P) (K : qd_yout post d (fun s => P (s ||| qd_lo x1)) inn) : wpY_given post (nI (d + 1), inn) x1 :=
  br_f (nI_ne0 (by omega) (by omega)) (Exists.intro 257 (qd_yg11 hd rfl K 256 0 inn rfl hrow (fun s h => absurd h (Nat.not_lt_zero s)) (fun _ _ => rfl)))
/-! a family by its number from the top; copy -/
theorem qd_yMis1 {inn : Nat → Int32} {post : Int32 → Prop} {d : Nat} {x : Int32} (h : x < 0 ∨ nI d ≤ x) (hp : post 1) : wpY_missing post (nI d, inn) x :=
  br_c (fun _ => hp) (fun z => br_f (Int32.not_lt.mpr (h.resolve_left z)) hp)
theorem qd_yMis0 {inn : Nat → Int32} {post : Int32 → Prop} {d k : Nat} (hd : d ≤ 10) (h : k < d) (hp : post 0) : wpY_missing post (nI d, inn) (nI k) :=
  br_f (nI_pos (by omega)) (pk_lt k d (fun _ => hp) (fun z => absurd z (by omega)))
theorem qd_yc21 {post : Int32 → SY → Prop} {d k : Nat} {P : Nat → Bool} {inn0 : Nat → Int32} (hk : k < d) (hd : d < 10) (K : qd_yout post d P inn0) : ∀ (e i : Nat) (inn : Nat → Int32), i + e = 256 → qd_row inn (256 * (d - 1 - k)) P → (∀ s, s < i → inn (256 * d + s) = qd_b (P s)) → (∀ j, j < 256 * d → inn j = inn0 j) → wY_copy_21 post (nI k) (nI d) (e + 1) (nI i) inn
  | 0, i, inn, hi, _, hr, hb => by
    obtain rfl : i = 256 := by omega
    exact pk_le 256 256 (fun _ => nm_r (nI_1 d) (K inn hr hb)) (fun z => absurd z (by omega))
  | e + 1, i, inn, hi, hrow, hr, hb => by
    have hin : vp_in (256 * ((nI d - 1) - nI k) + nI i) 2816 := by rw [qd_subk hk]; exact qd_256in (by omega)
    have hst : upd inn (256 * nI d + nI i).toNatClampNeg (vp_nar .boolean (inn (256 * ((nI d - 1) - nI k) + nI i).toNatClampNeg)) = upd inn (256 * d + i) (qd_b (P i)) := by rw [qd_subk hk, qd_256c (by omega), qd_256c (by omega), hrow i (by omega), qd_b_nar]
    exact pk_le 256 i (fun z => absurd z (by omega)) (fun _ => And.intro hin (And.intro (qd_256in (by omega)) (nm_r hst (nm_r (nI_1 i) (qd_yc21 hk hd K e (i + 1) _ (by omega) (qd_row_keep hrow (fun j h1 h2 => pk_un (by omega))) (qd_st1 hr rfl) (qd_st2 (Nat.le_refl _) hb))))))
theorem qd_yCopy {post : Int32 → SY → Prop} {d k : Nat} {P : Nat → Bool} {inn : Nat → Int32} (hk : k < d) (hd : d < 10) (hrow : qd_row inn (256 * (d - 1 - k)) P) (K : qd_yout post d P inn) : wpY_copy post (nI d, inn) (nI k) := by
  unfold wpY_copy
  dsimp only
  refine qd_yMis0 (by omega) hk ?_
  exact (br_t rfl (pk_eq d 10 (fun z => absurd z (by omega)) (fun _ => Exists.intro 257 (qd_yc21 hk hd K 256 0 inn rfl hrow (fun s h => absurd h (Nat.not_lt_zero s)) (fun _ _ => rfl)))))
theorem qd_yCopyN {inn : Nat → Int32} {post : Int32 → SY → Prop} {d : Nat} {x : Int32} (h : x < 0 ∨ nI d ≤ x) (hp : post (-1) (nI d, inn)) : wpY_copy post (nI d, inn) x := by
  unfold wpY_copy
  dsimp only
  refine qd_yMis1 h ?_
  exact br_f (by decide) hp
theorem qd_yCopyF {inn : Nat → Int32} {post : Int32 → SY → Prop} {d k : Nat} (hk : k < d) (hd : d = 10) (hp : post (-1) (nI d, inn)) : wpY_copy post (nI d, inn) (nI k) := by
  unfold wpY_copy
  dsimp only
  refine qd_yMis0 (by omega) hk ?_
  exact br_t rfl (pk_eq d 10 (fun _ => hp) (fun z => absurd hd z))
end
section
/-! ===== the reference's methods that only read ===== -/
section
variable {post : Int32 → Prop} {d k : Nat} {inn : Nat → Int32} {P : Nat → Bool}
theorem qd_bel (x : Int32) (hk : k < d) (hd : d ≤ 10) (hrow : qd_row inn (256 * (d - 1 - k)) P) (hp : post (qd_b (P (qd_lo x)))) : wpY_belongs post (nI d, inn) (nI k) x := by
  have hq := qd_lo_lt x
  have ei : 256 * ((nI d - 1) - nI k) + (x &&& 255) = 256 * nI (d - 1 - k) + nI (qd_lo x) := by rw [qd_subk hk, qd_lo_eq]
  have hv : inn (256 * ((nI d - 1) - nI k) + (x &&& 255)).toNatClampNeg = qd_b (P (qd_lo x)) := by rw [ei, qd_256c (by omega)]; exact hrow _ hq
  have hi : vp_in (256 * ((nI d - 1) - nI k) + (x &&& 255)) 2816 := by rw [ei]; exact qd_256in (by omega)
  refine And.intro hi ?_
  rw [hv]
  exact And.intro (qd_b_n _) hp
theorem qd_belN {s : Nat} (hs : s < 256) (hk : k < d) (hd : d ≤ 10) (hrow : qd_row inn (256 * (d - 1 - k)) P) (hp : post (qd_b (P s))) : wpY_belongs post (nI d, inn) (nI k) (nI s) := qd_bel (nI s) hk hd hrow (by rw [qd_lo_nI hs]; exact hp)
theorem qd_yEnough (x2 : Int32) (hk : k < d) (hd : d ≤ 10) (hrow : qd_row inn (256 * (d - 1 - k)) P) (hp : post (qd_b (P (qd_lo x2)))) : wpY_enough post (nI d, inn) (nI k) x2 := by
  unfold wpY_enough
  dsimp only
  refine qd_yMis0 hd hk ?_
  refine br_t rfl (qd_bel x2 hk hd hrow ?_)
  cases c : P (qd_lo x2)
  · rw [c] at hp
    exact br_t rfl hp
  · rw [c] at hp
    exact br_f qd_b1n hp
theorem qd_il13 {s : Nat} (hs : s < 256) (hk : k < d) (hd : d ≤ 10) (hrow : qd_row inn (256 * (d - 1 - k)) P) : ∀ (e i : Nat), i + e = 256 → post (qd_b (qd_fa (fun x => x == s || !(qd_sb x s) || !(P x)) e i)) → wY_isLeast_13 post (nI k) (nI s) (nI d) inn (e + 1) (nI i)
  | 0, i, hi, hp => pk_le 256 i (fun _ => hp) (fun z => absurd z (by omega))
  | e + 1, i, hi, hp => by
    have hc : (nI i &&& nI s) = nI i ↔ qd_sb i s = true := by
      have hb := qd_and256 (a := i) s (by omega)
      rw [nx_and, nI_eq (by omega) (by omega)]
      unfold qd_sb
      rw [beq_iff_eq]
    refine pk_le 256 i (fun z => absurd z (by omega)) (fun _ => pk_eq i s (fun z => ?_) (fun z => ?_))
    · rw [qd_fa_t (by show (i == s || !(qd_sb i s) || !(P i)) = true; rw [beq_iff_eq.mpr z]; rfl)] at hp
      exact nm_r (nI_1 i) (qd_il13 hs hk hd hrow e (i + 1) (by omega) hp)
    · have zb : (i == s) = false := beq_eq_false_iff_ne.mpr z
      by_cases c : qd_sb i s = true
      · refine br_t (hc.mpr c) (qd_belN (by omega) hk hd hrow ?_)
        cases c2 : P i
        · rw [qd_fa_t (by show (i == s || !(qd_sb i s) || !(P i)) = true; rw [c2, Bool.not_false, Bool.or_true])] at hp
          exact br_t rfl (nm_r (nI_1 i) (qd_il13 hs hk hd hrow e (i + 1) (by omega) hp))
        · rw [qd_fa_f (by show (i == s || !(qd_sb i s) || !(P i)) = false; rw [zb, c, c2]; rfl)] at hp
          exact br_f qd_b1n hp
      · have c' : qd_sb i s = false := by simpa using c
        rw [qd_fa_t (by show (i == s || !(qd_sb i s) || !(P i)) = true; rw [c', Bool.not_false, Bool.or_true, Bool.true_or])] at hp
        exact br_f (fun w => c (hc.mp w)) (nm_r (nI_1 i) (qd_il13 hs hk hd hrow e (i + 1) (by omega) hp))
theorem qd_isLeast {s : Nat} (hs : s < 256) (hk : k < d) (hd : d ≤ 10) (hrow : qd_row inn (256 * (d - 1 - k)) P) (hp : post (qd_b (qd_isl P s))) : wpY_isLeast post (nI d, inn) (nI k) (nI s) := by
  unfold wpY_isLeast
  dsimp only
  refine qd_belN hs hk hd hrow ?_
  unfold qd_isl at hp
  cases c : P s
  · rw [c, Bool.false_and] at hp
    exact br_t rfl hp
  · rw [c, Bool.true_and] at hp
    exact br_f qd_b1n (Exists.intro 257 (qd_il13 hs hk hd hrow 256 0 rfl hp))
theorem qd_yls14 {l : List Nat} (hl : qd_fam l) (hk : k < d) (hd : d ≤ 10) (hrow : qd_row inn (256 * (d - 1 - k)) (qd_up l)) (hp : post (nI l.length)) : ∀ (e i : Nat), i + e = 256 → wY_leastSets_14 post (nI k) (nI d) inn (e + 1) (nI (qd_cn l i)) (nI i)
  | 0, i, hi => by
    obtain rfl : i = 256 := by omega
    rw [qd_cn_all hl.1]
    exact pk_le 256 256 (fun _ => hp) (fun z => absurd z (by omega))
  | e + 1, i, hi => by
    refine pk_le 256 i (fun z => absurd z (by omega)) (fun _ => qd_isLeast (by omega) hk hd hrow ?_)
    have ih := qd_yls14 hl hk hd hrow hp e (i + 1) (by omega)
    by_cases c : i ∈ l
    · rw [(qd_isl_up hl i).mpr c]
      rw [qd_cn_in (qd_fam_nodup hl) c] at ih
      exact br_f qd_b1n (nm_r (nI_1 _) (nm_r (nI_1 i) ih))
    · have c' : qd_isl (qd_up l) i = false := by
        cases w : qd_isl (qd_up l) i
        · rfl
        · exact absurd ((qd_isl_up hl i).mp w) c
      rw [c']
      rw [qd_cn_out c] at ih
      exact br_t rfl (nm_r (nI_1 i) ih)
theorem qd_yLeastSets {l : List Nat} (hl : qd_fam l) (hk : k < d) (hd : d ≤ 10) (hrow : qd_row inn (256 * (d - 1 - k)) (qd_up l)) (hp : post (nI l.length)) : wpY_leastSets post (nI d, inn) (nI k) := by
  have h := qd_yls14 hl hk hd hrow hp 256 0 rfl
  rw [qd_cn_0] at h
  unfold wpY_leastSets
  dsimp only
  refine qd_yMis0 hd hk ?_
  exact br_t rfl (Exists.intro 257 h)
theorem qd_yl15 {l : List Nat} {x2 : Int32} (hl : qd_fam l) (hk : k < d) (hd : d ≤ 10) (hrow : qd_row inn (256 * (d - 1 - k)) (qd_up l)) (h1 : ∀ y, y ∈ l → nI (qd_cn l y) = x2 → post (nI y)) (h2 : (∀ y, y ∈ l → nI (qd_cn l y) ≠ x2) → post (-1)) : ∀ (e i : Nat), i + e = 256 → (∀ y, y ∈ l → y < i → nI (qd_cn l y) ≠ x2) → wY_leastSet_15 post (nI k) x2 (nI d) inn (e + 1) (nI (qd_cn l i)) (nI i)
  | 0, i, hi, hn => pk_le 256 i (fun _ => h2 (fun y hy => hn y hy (by have := hl.1 y hy; omega))) (fun z => absurd z (by omega))
  | e + 1, i, hi, hn => by
    refine pk_le 256 i (fun z => absurd z (by omega)) (fun _ => qd_isLeast (by omega) hk hd hrow ?_)
    by_cases c : i ∈ l
    · rw [(qd_isl_up hl i).mpr c]
      refine br_f qd_b1n (br_c (fun z => h1 i c z) (fun z => ?_))
      have ih := qd_yl15 hl hk hd hrow h1 h2 e (i + 1) (by omega) (fun y hy hyi => by
        by_cases w : y = i
        · rw [w]; exact z
        · exact hn y hy (by omega))
      rw [qd_cn_in (qd_fam_nodup hl) c] at ih
      exact nm_r (nI_1 _) (nm_r (nI_1 i) ih)
    · have c' : qd_isl (qd_up l) i = false := by
        cases w : qd_isl (qd_up l) i
        · rfl
        · exact absurd ((qd_isl_up hl i).mp w) c
      rw [c']
      have ih := qd_yl15 hl hk hd hrow h1 h2 e (i + 1) (by omega) (fun y hy hyi => by
        by_cases w : y = i
        · rw [w] at hy; exact absurd hy c
        · exact hn y hy (by omega))
      rw [qd_cn_out c] at ih
      exact br_t rfl (nm_r (nI_1 i) ih)
theorem qd_yLeastSet {l : List Nat} {x2 : Int32} (hl : qd_fam l) (hk : k < d) (hd : d ≤ 10) (hrow : qd_row inn (256 * (d - 1 - k)) (qd_up l)) (h1 : ∀ y, y ∈ l → nI (qd_cn l y) = x2 → post (nI y)) (h2 : (∀ y, y ∈ l → nI (qd_cn l y) ≠ x2) → post (-1)) : wpY_leastSet post (nI d, inn) (nI k) x2 := by
  have h := qd_yl15 hl hk hd hrow h1 h2 256 0 rfl (fun y _ h => absurd h (Nat.not_lt_zero y))
  rw [qd_cn_0] at h
  unfold wpY_leastSet
  dsimp only
  refine qd_yMis0 hd hk ?_
  exact br_t rfl (Exists.intro 257 h)
theorem qd_ym20 {m : Nat} {Q : Nat → Bool} (hk : k < d) (hm : m < d) (hd : d ≤ 10) (hrow : qd_row inn (256 * (d - 1 - k)) P) (hrow' : qd_row inn (256 * (d - 1 - m)) Q) : ∀ (e i : Nat), i + e = 256 → post (qd_b (qd_fa (fun s => !(P s) || qd_hit Q s) e i)) → wY_meet_20 post (nI k) (nI m) (nI d) inn (e + 1) (nI i)
  | 0, i, hi, hp => pk_le 256 i (fun _ => hp) (fun z => absurd z (by omega))
  | e + 1, i, hi, hp => by
    refine pk_le 256 i (fun z => absurd z (by omega)) (fun _ => qd_belN (by omega) hk hd hrow ?_)
    cases c : P i
    · rw [qd_fa_t (by show (!(P i) || qd_hit Q i) = true; rw [c]; rfl)] at hp
      exact br_t rfl (nm_r (nI_1 i) (qd_ym20 hk hm hd hrow hrow' e (i + 1) (by omega) hp))
    · refine br_f qd_b1n ?_
      rw [qd_subk hm]
      refine qd_hits (by omega) (by omega) hrow' ?_
      cases c2 : qd_hit Q i
      · rw [qd_fa_f (by show (!(P i) || qd_hit Q i) = false; rw [c, c2]; rfl)] at hp
        exact br_t rfl hp
      · rw [qd_fa_t (by show (!(P i) || qd_hit Q i) = true; rw [c, c2]; rfl)] at hp
        exact br_f qd_b1n (nm_r (nI_1 i) (qd_ym20 hk hm hd hrow hrow' e (i + 1) (by omega) hp))
theorem qd_yMeet {m : Nat} {Q : Nat → Bool} (hk : k < d) (hm : m < d) (hd : d ≤ 10) (hrow : qd_row inn (256 * (d - 1 - k)) P) (hrow' : qd_row inn (256 * (d - 1 - m)) Q) (hp : post (qd_b (qd_mty P Q))) : wpY_meet post (nI d, inn) (nI k) (nI m) := by
  unfold wpY_meet
  dsimp only
  refine qd_yMis0 hd hk ?_
  refine br_t rfl ?_
  refine qd_yMis0 hd hm ?_
  exact br_t rfl (Exists.intro 257 (qd_ym20 hk hm hd hrow hrow' 256 0 rfl hp))
theorem qd_yw15 (hk : k < d) (hd : d ≤ 10) (hrow : qd_row inn (256 * (d - 1 - k)) P) : ∀ (e i b : Nat), i + e = 256 → b ≤ 9 → post (nI (qd_wf (fun s => !(P (255 &&& (255 ^^^ s)))) e i b)) → wY_withstand_15 post (nI k) (nI d) inn (e + 1) (nI b) (nI i)
  | 0, i, b, hi, hb9, hp => pk_le 256 i (fun _ => hp) (fun z => absurd z (by omega))
  | e + 1, i, b, hi, hb9, hp => by
    have h8 := qd_on_le i
    have e1 : (255 : Int32) &&& (nI i ^^^ (-1)) = nI (255 &&& (255 ^^^ i)) := by
      have h := qd_andn (a := 255) (by decide) (nI i)
      rw [qd_lo_nI (by omega)] at h
      exact h
    refine pk_le 256 i (fun z => absurd z (by omega)) (fun _ => qd_yones (by omega) ?_)
    rw [e1]
    refine qd_belN (qd_and256 _ (by decide)) hk hd hrow ?_
    cases c : P (255 &&& (255 ^^^ i))
    · refine br_t rfl (pk_le b (qd_on i) (fun z => ?_) (fun z => ?_))
      · rw [qd_wf_f (fun w => absurd w.2 (by omega))] at hp
        exact nm_r (nI_1 i) (qd_yw15 hk hd hrow e (i + 1) b (by omega) hb9 hp)
      · rw [qd_wf_t (by show (!(P (255 &&& (255 ^^^ i)))) = true; rw [c]; rfl) z] at hp
        exact nm_r (nI_1 i) (qd_yw15 hk hd hrow e (i + 1) (qd_on i) (by omega) (by omega) hp)
    · rw [qd_wf_f (fun w => by have w1 : (!(P (255 &&& (255 ^^^ i)))) = true := w.1; rw [c] at w1; cases w1)] at hp
      exact br_f qd_b1n (nm_r (nI_1 i) (qd_yw15 hk hd hrow e (i + 1) b (by omega) hb9 hp))
theorem qd_yWithstand (hk : k < d) (hd : d ≤ 10) (hrow : qd_row inn (256 * (d - 1 - k)) P) (hp : post (nI (qd_wf (fun s => !(P (255 &&& (255 ^^^ s)))) 256 0 9))) : wpY_withstand post (nI d, inn) (nI k) := by
  unfold wpY_withstand
  dsimp only
  refine qd_yMis0 hd hk ?_
  exact br_t rfl (Exists.intro 257 (qd_yw15 hk hd hrow 256 0 9 rfl (Nat.le_refl 9) hp))
theorem qd_yenoughN {x : Int32} (x2 : Int32) (h : x < 0 ∨ nI d ≤ x) (hp : post (-1)) : wpY_enough post (nI d, inn) x x2 := by
  unfold wpY_enough
  dsimp only
  refine qd_yMis1 h ?_
  exact br_f (by decide) hp
theorem qd_yleastSetsN {x : Int32} (h : x < 0 ∨ nI d ≤ x) (hp : post (-1)) : wpY_leastSets post (nI d, inn) x := by
  unfold wpY_leastSets
  dsimp only
  refine qd_yMis1 h ?_
  exact br_f (by decide) hp
theorem qd_yleastSetN {x : Int32} (x2 : Int32) (h : x < 0 ∨ nI d ≤ x) (hp : post (-1)) : wpY_leastSet post (nI d, inn) x x2 := by
  unfold wpY_leastSet
  dsimp only
  refine qd_yMis1 h ?_
  exact br_f (by decide) hp
theorem qd_ywithstandN {x : Int32} (h : x < 0 ∨ nI d ≤ x) (hp : post (-1)) : wpY_withstand post (nI d, inn) x := by
  unfold wpY_withstand
  dsimp only
  refine qd_yMis1 h ?_
  exact br_f (by decide) hp
theorem qd_ymeetN {x : Int32} (x2 : Int32) (h : x < 0 ∨ nI d ≤ x) (hp : post (-1)) : wpY_meet post (nI d, inn) x x2 := by
  unfold wpY_meet
  dsimp only
  refine qd_yMis1 h ?_
  exact br_f (by decide) hp
theorem qd_ymeetM {x2 : Int32} (hk : k < d) (hd : d ≤ 10) (h : x2 < 0 ∨ nI d ≤ x2) (hp : post (-1)) : wpY_meet post (nI d, inn) (nI k) x2 := by
  unfold wpY_meet
  dsimp only
  refine qd_yMis0 hd hk ?_
  refine br_t rfl ?_
  refine qd_yMis1 h ?_
  exact br_f (by decide) hp
end
theorem qd_cn_ex {l : List Nat} (nd : l.Nodup) (idx : Nat) : ∀ n, idx < qd_cn l n → ∃ y, y ∈ l ∧ qd_cn l y = idx
  | 0, h => by rw [qd_cn_0] at h; omega
  | n + 1, h => by
    by_cases c : n ∈ l
    · rw [qd_cn_in nd c] at h
      rcases Nat.lt_or_ge idx (qd_cn l n) with z | z
      · exact qd_cn_ex nd idx n z
      · exact ⟨n, c, by omega⟩
    · rw [qd_cn_out c] at h
      exact qd_cn_ex nd idx n h
end
section
/-! ===== the relation and what is owed ===== -/
def qd_st (d : Nat) (F : Nat → List Nat) (sz le inn : Nat → Int32) : Prop := ∀ f, f < d → qd_fam (F f) ∧ sz f = nI (F f).length ∧ qd_at le (70 * f) (F f) ∧ qd_row inn (256 * f) (qd_up (F f))
def i_Rel (_ : Nat) (u : SX) (v : SY) : Prop := ∃ (d : Nat) (F : Nat → List Nat) (g oc : Int32) (sz le se ol inn : Nat → Int32), d ≤ 10 ∧ u = (nI d, g, oc, sz, le, se, ol) ∧ v = (nI d, inn) ∧ qd_st d F sz le inn
theorem qd_rel {k d : Nat} {F : Nat → List Nat} {g oc : Int32} {sz le se ol inn : Nat → Int32} (hd : d ≤ 10) (hS : qd_st d F sz le inn) : i_Rel k (nI d, g, oc, sz, le, se, ol) (nI d, inn) := ⟨d, F, g, oc, sz, le, se, ol, inn, hd, rfl, rfl, hS⟩
theorem qd_st_le {d d' : Nat} {F : Nat → List Nat} {sz le inn : Nat → Int32} (h : d' ≤ d) (hS : qd_st d F sz le inn) : qd_st d' F sz le inn := fun f hf => hS f (by omega)
theorem qd_fin {k d : Nat} {F : Nat → List Nat} {g oc : Int32} {sz le le' se ol inn inn' : Nat → Int32} {l : List Nat} {P : Nat → Bool} (hd : d < 10) (hS : qd_st d F sz le inn) (hl : qd_fam l) (hP : ∀ s, s < 256 → P s = qd_up l s) (h1 : qd_at le' (70 * d) l) (h2 : ∀ j, j < 70 * d → le' j = le j) (h3 : qd_row inn' (256 * d) P) (h4 : ∀ j, j < 256 * d → inn' j = inn j) : i_Rel k (nI (d + 1), g, oc, upd sz d (nI l.length), le', se, ol) (nI (d + 1), inn') := by
  refine qd_rel (F := fun f => if f = d then l else F f) (by omega) (fun f hf => ?_)
  show qd_fam (if f = d then l else F f) ∧ upd sz d (nI l.length) f = nI (if f = d then l else F f).length ∧ qd_at le' (70 * f) (if f = d then l else F f) ∧ qd_row inn' (256 * f) (qd_up (if f = d then l else F f))
  by_cases z : f = d
  · rw [if_pos z]
    subst z
    exact ⟨hl, pk_us, h1, fun s hs => by rw [h3 s hs, hP s hs]⟩
  · rw [if_neg z]
    obtain ⟨a1, a2, a3, a4⟩ := hS f (by omega)
    have h70 := qd_70 a1
    exact ⟨a1, by rw [pk_un z]; exact a2, qd_at_keep _ _ (fun j h5 h6 => h2 j (by omega)) a3, qd_row_keep a4 (fun j h5 h6 => h4 j (by omega))⟩
theorem i_up {k : Nat} {u : SX} {v : SY} (h : i_Rel k u v) : i_Rel (k + 3) u v := h
theorem i_vc0 : wpX_init (fun u => wpY_init (fun v => i_Rel 0 u v)) := by
  show i_Rel 0 (0, 0, 0, (fun _ => 0), (fun _ => 0), (fun _ => 0), (fun _ => 0)) (0, (fun _ => 0))
  exact qd_rel (d := 0) (F := fun _ => []) (Nat.zero_le _) (fun f h => absurd h (Nat.not_lt_zero f))
theorem i_vc_atLeast {k : Nat} {u : SX} {v : SY} (I : i_Rel k u v) (hk : k + 3 ≤ 1536) (v1 : Int32) (v2 : Int32) : wpX_atLeast (fun r u' => wpY_atLeast (fun r' v' => r' = r ∧ i_Rel (k + 3) u' v') v v1 v2) u v1 v2 := by
  obtain ⟨d, F, g, oc, sz, le, se, ol, inn, hd, rfl, rfl, hS⟩ := I
  by_cases h0 : v1 < 0
  · exact br_t h0 (br_t h0 (And.intro rfl (qd_rel hd hS)))
  · obtain ⟨c, hc, rfl⟩ := nI_of h0
    rcases Nat.lt_or_ge 8 c with h8 | h8
    · exact br_f h0 (pk_lt 8 c (fun _ => br_f h0 (pk_lt 8 c (fun _ => And.intro rfl (qd_rel hd hS)) (fun z => absurd z (by omega)))) (fun z => absurd z (by omega)))
    · rcases Nat.lt_or_ge d 10 with hd' | hd'
      · exact qd_xAtLeast v2 h8 hd' (fun oc' le' se' ol' h1 h2 => qd_yAtLeast v2 h8 hd' (fun inn' h3 h4 => And.intro rfl (qd_fin hd' hS (qd_al_fam _ _ (Nat.le_refl 256)) (fun s hs => (qd_al_up _ _ hs).symm) h1 h2 h3 h4)))
      · exact br_f h0 (pk_lt 8 c (fun z => absurd z (by omega)) (fun _ => pk_lt d 10 (fun z => absurd z (by omega)) (fun _ => br_f h0 (pk_lt 8 c (fun z => absurd z (by omega)) (fun _ => pk_eq d 10 (fun _ => And.intro rfl (qd_rel hd hS)) (fun z => absurd (Nat.le_antisymm hd hd') z))))))
theorem i_vc_join {k : Nat} {u : SX} {v : SY} (I : i_Rel k u v) (hk : k + 3 ≤ 1536) (v1 : Int32) : wpX_join (fun r u' => wpY_join (fun r' v' => r' = r ∧ i_Rel (k + 3) u' v') v (lw_bz v1)) u (lw_bz v1) := by
  obtain ⟨d, F, g, oc, sz, le, se, ol, inn, hd, rfl, rfl, hS⟩ := I
  rcases Nat.lt_or_ge d 2 with h2 | h2
  · exact pk_le 2 d (fun z => absurd z (by omega)) (fun _ => pk_le 2 d (fun z => absurd z (by omega)) (fun _ => And.intro rfl (qd_rel hd hS)))
  · obtain ⟨e, rfl⟩ : ∃ e, d = e + 2 := ⟨d - 2, by omega⟩
    obtain ⟨a1, a2, a3, a4⟩ := hS e (by omega)
    obtain ⟨b1, b2, b3, b4⟩ := hS (e + 1) (by omega)
    have hS' := qd_st_le (d' := e) (by omega) hS
    rcases lw_bz_01 v1 with z | z
    · rw [z]
      refine qd_xJoin0 (by omega) a2 a1 a3 b2 b1 b3 (fun oc' le' se' ol' h1 h2 => qd_yJoin (N := fun s => qd_up (F e) s || qd_up (F (e + 1)) s) (fun s => (if_pos rfl).symm) (by omega) a4 b4 (fun inn' h3 h4 => And.intro rfl (qd_fin (by omega) hS' (qd_gl_fam _ _ b1.1 (qd_gl_fam _ _ a1.1 qd_fam_nil)) (fun s _ => ?_) h1 h2 h3 h4)))
      rw [qd_gl_up, qd_gl_up, show qd_up [] s = false from rfl, Bool.false_or]
    · rw [z]
      refine qd_xJoin1 (by decide) (by omega) a2 a1 a3 b2 b1 b3 (fun oc' le' se' ol' h1 h2 => qd_yJoin (N := fun s => qd_up (F e) s && qd_up (F (e + 1)) s) (fun s => (if_neg (by decide)).symm) (by omega) a4 b4 (fun inn' h3 h4 => And.intro rfl (qd_fin (by omega) hS' (qd_gl_fam _ _ (qd_un_256 a1.1 b1.1) qd_fam_nil) (fun s _ => ?_) h1 h2 h3 h4)))
      rw [qd_gl_up, qd_un_up, show qd_up [] s = false from rfl, Bool.false_or]
theorem i_vc_dual {k : Nat} {u : SX} {v : SY} (I : i_Rel k u v) (hk : k + 3 ≤ 1536) : wpX_dual (fun r u' => wpY_dual (fun r' v' => r' = r ∧ i_Rel (k + 3) u' v') v) u := by
  obtain ⟨d, F, g, oc, sz, le, se, ol, inn, hd, rfl, rfl, hS⟩ := I
  rcases d with _ | e
  · exact pk_le 1 0 (fun z => absurd z (by omega)) (fun _ => br_t nI_0 (And.intro rfl (qd_rel hd hS)))
  · obtain ⟨a1, a2, a3, a4⟩ := hS e (by omega)
    refine qd_xDual (by omega) a2 a1 a3 (fun oc' le' se' ol' h1 h2 => qd_yDual (by omega) a4 (fun inn' h3 h4 => And.intro rfl (qd_fin (by omega) (qd_st_le (by omega) hS) (qd_du_fam _ _ qd_fam_0) (fun s _ => ?_) h1 h2 h3 h4)))
    rw [qd_du_up _ _ _ a1.1, qd_up_0, Bool.true_and, qd_hit_up a1.1]
theorem i_vc_given {k : Nat} {u : SX} {v : SY} (I : i_Rel k u v) (hk : k + 3 ≤ 1536) (v1 : Int32) : wpX_given (fun r u' => wpY_given (fun r' v' => r' = r ∧ i_Rel (k + 3) u' v') v v1) u v1 := by
  obtain ⟨d, F, g, oc, sz, le, se, ol, inn, hd, rfl, rfl, hS⟩ := I
  rcases d with _ | e
  · exact pk_le 1 0 (fun z => absurd z (by omega)) (fun _ => br_t nI_0 (And.intro rfl (qd_rel hd hS)))
  · obtain ⟨a1, a2, a3, a4⟩ := hS e (by omega)
    refine qd_xGiven v1 (by omega) a2 a1 a3 (fun oc' le' se' ol' h1 h2 => qd_yGiven v1 (by omega) a4 (fun inn' h3 h4 => And.intro rfl (qd_fin (by omega) (qd_st_le (by omega) hS) (qd_gl_fam _ _ (qd_gv_256 a1.1 _) qd_fam_nil) (fun s _ => ?_) h1 h2 h3 h4)))
    rw [qd_gl_up, qd_gv_up a1.1, show qd_up [] s = false from rfl, Bool.false_or]
theorem i_vc_copy {k : Nat} {u : SX} {v : SY} (I : i_Rel k u v) (hk : k + 3 ≤ 1536) (v1 : Int32) : wpX_copy (fun r u' => wpY_copy (fun r' v' => r' = r ∧ i_Rel (k + 3) u' v') v v1) u v1 := by
  obtain ⟨d, F, g, oc, sz, le, se, ol, inn, hd, rfl, rfl, hS⟩ := I
  rcases or_assoc.mpr (pk_ix v1 (n := d) (by omega)) with h | ⟨j, hj, rfl⟩
  · exact qd_xCopyN h (qd_yCopyN h (And.intro rfl (qd_rel hd hS)))
  · rcases Nat.lt_or_ge d 10 with hd' | hd'
    · obtain ⟨a1, a2, a3, a4⟩ := hS (d - 1 - j) (by omega)
      exact qd_xCopy hj hd' a2 a1 a3 (fun oc' le' se' ol' h1 h2 => qd_yCopy hj hd' a4 (fun inn' h3 h4 => And.intro rfl (qd_fin hd' hS a1 (fun s _ => rfl) h1 h2 h3 h4)))
    · have h10 := Nat.le_antisymm hd hd'
      exact qd_xCopyF hj h10 (qd_yCopyF hj h10 (And.intro rfl (qd_rel hd hS)))
theorem i_vc_drop {k : Nat} {u : SX} {v : SY} (I : i_Rel k u v) (hk : k + 3 ≤ 1536) : wpX_drop (fun r u' => wpY_drop (fun r' v' => r' = r ∧ i_Rel (k + 3) u' v') v) u := by
  obtain ⟨d, F, g, oc, sz, le, se, ol, inn, hd, rfl, rfl, hS⟩ := I
  rcases d with _ | e
  · exact pk_le 1 0 (fun z => absurd z (by omega)) (fun _ => br_t nI_0 (And.intro rfl (qd_rel hd hS)))
  · exact pk_le 1 (e + 1) (fun _ => nm_r (qd_sub1 e) (br_f (nI_ne0 (by omega) (by omega)) (nm_r (qd_sub1 e) (And.intro rfl (qd_rel (by omega) (qd_st_le (by omega) hS)))))) (fun z => absurd z (by omega))
theorem i_vc_enough {k : Nat} {u : SX} {v : SY} (I : i_Rel k u v) (hk : k + 3 ≤ 1536) (v1 : Int32) (v2 : Int32) : wpX_enough (fun r => wpY_enough (fun r' => r' = r ∧ i_Rel (k + 3) u v) v v1 v2) u v1 v2 := by
  obtain ⟨d, F, g, oc, sz, le, se, ol, inn, hd, rfl, rfl, hS⟩ := I
  rcases or_assoc.mpr (pk_ix v1 (n := d) (by omega)) with h | ⟨j, hj, rfl⟩
  · exact qd_xenoughN v2 h (qd_yenoughN v2 h (And.intro rfl (qd_rel hd hS)))
  · obtain ⟨a1, a2, a3, a4⟩ := hS (d - 1 - j) (by omega)
    exact qd_xEnough v2 hj hd a2 a1 a3 (qd_yEnough v2 hj hd a4 (And.intro rfl (qd_rel hd hS)))
theorem i_vc_leastSets {k : Nat} {u : SX} {v : SY} (I : i_Rel k u v) (hk : k + 3 ≤ 1536) (v1 : Int32) : wpX_leastSets (fun r => wpY_leastSets (fun r' => r' = r ∧ i_Rel (k + 3) u v) v v1) u v1 := by
  obtain ⟨d, F, g, oc, sz, le, se, ol, inn, hd, rfl, rfl, hS⟩ := I
  rcases or_assoc.mpr (pk_ix v1 (n := d) (by omega)) with h | ⟨j, hj, rfl⟩
  · exact qd_xleastSetsN h (qd_yleastSetsN h (And.intro rfl (qd_rel hd hS)))
  · obtain ⟨a1, a2, a3, a4⟩ := hS (d - 1 - j) (by omega)
    exact qd_xLeastSets hj hd a2 (qd_yLeastSets a1 hj hd a4 (And.intro rfl (qd_rel hd hS)))
theorem qd_cn_lt {l : List Nat} (nd : l.Nodup) {y : Nat} (hy : y ∈ l) : qd_cn l y < l.length := by
  have h1 := qd_cn_in nd hy
  have h2 := qd_cn_le l (y + 1)
  omega
theorem i_vc_leastSet {k : Nat} {u : SX} {v : SY} (I : i_Rel k u v) (hk : k + 3 ≤ 1536) (v1 : Int32) (v2 : Int32) : wpX_leastSet (fun r => wpY_leastSet (fun r' => r' = r ∧ i_Rel (k + 3) u v) v v1 v2) u v1 v2 := by
  obtain ⟨d, F, g, oc, sz, le, se, ol, inn, hd, rfl, rfl, hS⟩ := I
  rcases or_assoc.mpr (pk_ix v1 (n := d) (by omega)) with h | ⟨j, hj, rfl⟩
  · exact qd_xleastSetN v2 h (qd_yleastSetN v2 h (And.intro rfl (qd_rel hd hS)))
  · obtain ⟨a1, a2, a3, a4⟩ := hS (d - 1 - j) (by omega)
    have nd := qd_fam_nodup a1
    have h70 := qd_70 a1
    rcases or_assoc.mpr (pk_ix v2 (n := (F (d - 1 - j)).length) (by omega)) with h | ⟨idx, hidx, rfl⟩
    · refine qd_xLeastSetN hj hd a2 h (qd_yLeastSet a1 hj hd a4 (fun y hy e => ?_) (fun _ => And.intro rfl (qd_rel hd hS)))
      exfalso
      have hlt := qd_cn_lt nd hy
      subst e
      rcases h with h | h
      · exact nI_pos (by omega) h
      · exact nI_ge hlt (by omega) h
    · refine qd_xLeastSet hj hd hidx a2 a1 a3 (qd_cn_ex nd idx 256 (by rw [qd_cn_all a1.1]; exact hidx)) (fun y hy e => ?_)
      refine qd_yLeastSet a1 hj hd a4 (fun y' hy' e' => ?_) (fun hn => absurd (by rw [e]) (hn y hy))
      have hlt := qd_cn_lt nd hy'
      rw [nI_eq (by omega) (by omega)] at e'
      have e2 := qd_cn_inj nd hy' hy (by omega)
      subst e2
      exact And.intro rfl (qd_rel hd hS)
theorem i_vc_meet {k : Nat} {u : SX} {v : SY} (I : i_Rel k u v) (hk : k + 3 ≤ 1536) (v1 : Int32) (v2 : Int32) : wpX_meet (fun r => wpY_meet (fun r' => r' = r ∧ i_Rel (k + 3) u v) v v1 v2) u v1 v2 := by
  obtain ⟨d, F, g, oc, sz, le, se, ol, inn, hd, rfl, rfl, hS⟩ := I
  rcases or_assoc.mpr (pk_ix v1 (n := d) (by omega)) with h | ⟨j, hj, rfl⟩
  · exact qd_xmeetN v2 h (qd_ymeetN v2 h (And.intro rfl (qd_rel hd hS)))
  · rcases or_assoc.mpr (pk_ix v2 (n := d) (by omega)) with h | ⟨m, hm, rfl⟩
    · exact qd_xmeetM hj hd h (qd_ymeetM hj hd h (And.intro rfl (qd_rel hd hS)))
    · obtain ⟨a1, a2, a3, a4⟩ := hS (d - 1 - j) (by omega)
      obtain ⟨b1, b2, b3, b4⟩ := hS (d - 1 - m) (by omega)
      refine qd_xMeet hj hm hd a2 a1 a3 b2 b1 b3 (qd_yMeet hj hm hd a4 b4 ?_)
      rw [qd_mt_eq a1.1 b1.1]
      exact And.intro rfl (qd_rel hd hS)
theorem i_vc_withstand {k : Nat} {u : SX} {v : SY} (I : i_Rel k u v) (hk : k + 3 ≤ 1536) (v1 : Int32) : wpX_withstand (fun r => wpY_withstand (fun r' => r' = r ∧ i_Rel (k + 3) u v) v v1) u v1 := by
  obtain ⟨d, F, g, oc, sz, le, se, ol, inn, hd, rfl, rfl, hS⟩ := I
  rcases or_assoc.mpr (pk_ix v1 (n := d) (by omega)) with h | ⟨j, hj, rfl⟩
  · exact qd_xwithstandN h (qd_ywithstandN h (And.intro rfl (qd_rel hd hS)))
  · obtain ⟨a1, a2, a3, a4⟩ := hS (d - 1 - j) (by omega)
    refine qd_xWithstand hj hd a2 a1 a3 (qd_yWithstand hj hd a4 ?_)
    rw [qd_wf_congr 256 0 9 (fun x _ _ => qd_wq a1.1 x)]
    exact And.intro rfl (qd_rel hd hS)
end
