section
/-! D-11272, part 1: ints by their value (toInt), bits of the mask, one column of footpaths -/
theorem zq_le {x y : Int32} {A B : Prop} (u v : Int) (hx : x.toInt = u) (hy : y.toInt = v) (f : u ≤ v → A) (g : v < u → B) : (x ≤ y → A) ∧ (¬ x ≤ y → B) := by
  subst hx hy
  rw [Int32.le_iff_toInt_le]
  exact ⟨f, fun z => g (by omega)⟩
theorem zq_lt {x y : Int32} {A B : Prop} (u v : Int) (hx : x.toInt = u) (hy : y.toInt = v) (f : u < v → A) (g : v ≤ u → B) : (x < y → A) ∧ (¬ x < y → B) := by
  subst hx hy
  rw [Int32.lt_iff_toInt_lt]
  exact ⟨f, fun z => g (by omega)⟩
theorem zq_eq {x y : Int32} {A B : Prop} (u v : Int) (hx : x.toInt = u) (hy : y.toInt = v) (f : u = v → A) (g : u ≠ v → B) : (x = y → A) ∧ (¬ x = y → B) := by
  subst hx hy
  rw [← Int32.toInt_inj]
  exact ⟨f, g⟩
theorem zq_add {x y : Int32} (u v : Int) (hx : x.toInt = u) (hy : y.toInt = v) (h1 : -2147483648 ≤ u + v) (h2 : u + v < 2147483648) : (x + y).toInt = u + v := by
  subst hx hy
  rw [Int32.toInt_add]
  exact Int.bmod_eq_of_le (by omega) (by omega)
theorem zq_sub {x y : Int32} (u v : Int) (hx : x.toInt = u) (hy : y.toInt = v) (h1 : -2147483648 ≤ u - v) (h2 : u - v < 2147483648) : (x - y).toInt = u - v := by
  subst hx hy
  rw [Int32.toInt_sub]
  exact Int.bmod_eq_of_le (by omega) (by omega)
theorem zq_far : (1000000 : Int32).toInt = 1000000 := by decide
theorem zq_nfar : (-1000000 : Int32).toInt = -1000000 := by decide
theorem zq_n5 : (-5 : Int32).toInt = -5 := by decide
theorem zq_z0 : (0 : Int32).toInt = 0 := by decide
theorem zq_cl0 : (0 : Int32).toNatClampNeg = 0 := by decide
theorem zq_l0 (i : Nat) : (0 : Int32) * 6 + nI i = nI i := by
  rw [Int32.zero_mul, Int32.zero_add]
theorem zq_cell (i j : Nat) : nI i * 8 + nI j = nI (i * 8 + j) := by
  show nI i * nI 8 + nI j = _
  rw [pk_mul, nI_add]
/-- stop j is marked in the mask z -/
def zq_bit (z : Int32) (j : Nat) : Prop := (z >>> (nI j &&& 31)) &&& 1 = 1
theorem zq_one (i : Nat) : (1 : Int32).toBitVec.getLsbD i = decide (i = 0) := by
  show (1#32).getLsbD i = _
  rw [BitVec.getLsbD_one]
  simp
theorem zq_sm : ∀ n, n < 8 → ((nI n &&& 31).toBitVec.smod 32).toNat = n := by decide +kernel
theorem zq_bit_iff (z : Int32) {j : Nat} (hj : j < 8) : zq_bit z j ↔ z.toBitVec.getLsbD j = true := by
  have e : (z >>> (nI j &&& 31)).toBitVec = z.toBitVec.sshiftRight j := by
    rw [Int32.toBitVec_shiftRight]
    show z.toBitVec.sshiftRight ((nI j &&& 31).toBitVec.smod 32).toNat = _
    rw [zq_sm j hj]
  have e0 : (z.toBitVec.sshiftRight j).getLsbD 0 = z.toBitVec.getLsbD j := by
    rw [BitVec.getLsbD_sshiftRight]
    simp [show j < 32 by omega]
  unfold zq_bit
  rw [← Int32.toBitVec_inj, Int32.toBitVec_and, e]
  show (z.toBitVec.sshiftRight j &&& 1#32) = 1#32 ↔ _
  rw [BitVec.and_one_eq_setWidth_ofBool_getLsbD, e0]
  cases z.toBitVec.getLsbD j
  · exact ⟨fun h => absurd h (by decide), fun h => absurd h (by decide)⟩
  · exact ⟨fun _ => rfl, fun _ => by decide⟩
theorem zq_bit_0 {j : Nat} (hj : j < 8) : ¬ zq_bit 0 j := by
  rw [zq_bit_iff 0 hj]
  show ¬ (0#32).getLsbD j = true
  rw [BitVec.getLsbD_zero]
  decide
theorem zq_bit_or {z y : Int32} {j : Nat} (hj : j < 8) (h : zq_bit z j) : zq_bit (z ||| y) j := by
  rw [zq_bit_iff _ hj] at h ⊢
  rw [Int32.toBitVec_or, BitVec.getLsbD_or, h, Bool.true_or]
theorem zq_sh : ∀ l, l < 8 → ((1 : Int32) <<< (nI l &&& 31)).toBitVec.getLsbD l = true := by decide +kernel
theorem zq_bit_set {z : Int32} {j : Nat} (hj : j < 8) : zq_bit (z ||| ((1 : Int32) <<< (nI j &&& 31))) j := by
  rw [zq_bit_iff _ hj, Int32.toBitVec_or, BitVec.getLsbD_or, zq_sh j hj, Bool.or_true]
/-- forward: the earliest at a stop by the footpaths from the first n stops -/
def zq_bst (w : Nat → Nat) (R : Nat → Int) (r : Int) : Nat → Int
  | 0 => r
  | n + 1 => if 0 < w n ∧ R n + w n < zq_bst w R r n then R n + w n else zq_bst w R r n
/-- backward: the latest -/
def zq_lst (w : Nat → Nat) (R : Nat → Int) (r : Int) : Nat → Int
  | 0 => r
  | n + 1 => if 0 < w n ∧ zq_lst w R r n < R n - w n then R n - w n else zq_lst w R r n
theorem zq_bst_0 {w : Nat → Nat} {R : Nat → Int} {r : Int} : ∀ n : Nat, (∀ u, u < n → w u = 0) → zq_bst w R r n = r := by
  intro n
  induction n with
  | zero => intro _; rfl
  | succ n ih =>
    intro h
    show (if 0 < w n ∧ R n + w n < zq_bst w R r n then R n + w n else zq_bst w R r n) = r
    rw [if_neg (fun z => absurd z.1 (by rw [h n (by omega)]; omega)), ih (fun u hu => h u (by omega))]
theorem zq_bst_1 {w : Nat → Nat} {R : Nat → Int} {r : Int} {p : Nat} : ∀ n : Nat, p < n → (∀ u, u < n → u ≠ p → w u = 0) → zq_bst w R r n = if 0 < w p ∧ R p + w p < r then R p + w p else r := by
  intro n
  induction n with
  | zero => intro hp; omega
  | succ n ih =>
    intro hp h
    show (if 0 < w n ∧ R n + w n < zq_bst w R r n then R n + w n else zq_bst w R r n) = _
    by_cases e : n = p
    · rw [zq_bst_0 n (fun u hu => h u (by omega) (by omega)), e]
    · rw [if_neg (fun z => absurd z.1 (by rw [h n (by omega) e]; omega)), ih (by omega) (fun u hu hn => h u (by omega) hn)]
theorem zq_lst_0 {w : Nat → Nat} {R : Nat → Int} {r : Int} : ∀ n : Nat, (∀ u, u < n → w u = 0) → zq_lst w R r n = r := by
  intro n
  induction n with
  | zero => intro _; rfl
  | succ n ih =>
    intro h
    show (if 0 < w n ∧ zq_lst w R r n < R n - w n then R n - w n else zq_lst w R r n) = r
    rw [if_neg (fun z => absurd z.1 (by rw [h n (by omega)]; omega)), ih (fun u hu => h u (by omega))]
theorem zq_lst_1 {w : Nat → Nat} {R : Nat → Int} {r : Int} {p : Nat} : ∀ n : Nat, p < n → (∀ u, u < n → u ≠ p → w u = 0) → zq_lst w R r n = if 0 < w p ∧ r < R p - w p then R p - w p else r := by
  intro n
  induction n with
  | zero => intro hp; omega
  | succ n ih =>
    intro hp h
    show (if 0 < w n ∧ zq_lst w R r n < R n - w n then R n - w n else zq_lst w R r n) = _
    by_cases e : n = p
    · rw [zq_lst_0 n (fun u hu => h u (by omega) (by omega)), e]
    · rw [if_neg (fun z => absurd z.1 (by rw [h n (by omega) e]; omega)), ih (by omega) (fun u hu hn => h u (by omega) hn)]
/-- the one footpath: between a and b, f minutes -/
def zq_W (a b f i j : Nat) : Nat := if (i = a ∧ j = b) ∨ (i = b ∧ j = a) then f else 0
/-- the timetable that the law makes: line 0 goes from a to b in m minutes; trip 0 of it starts at s -/
def zq_T (a b m f s : Nat) (a1 a2 a3 a4 a5 a6 : Nat → Int32) : Prop :=
  (a < 8 ∧ b < 8 ∧ a ≠ b ∧ 1 ≤ m ∧ m ≤ 30 ∧ f ≤ 30 ∧ s ≤ 500) ∧ a1 0 = nI 2 ∧ a2 0 = nI a ∧ a2 1 = nI b ∧ a3 0 = nI 0 ∧ a3 1 = nI m ∧ a4 0 = nI 0 ∧ a5 0 = nI s ∧ (∀ i j, i < 8 → j < 8 → a6 (i * 8 + j) = nI (zq_W a b f i j))
/-- an array of times: x at a, y at b, c elsewhere -/
def zq_P (a b : Nat) (x y c : Int) (A : Nat → Int32) : Prop := (A a).toInt = x ∧ (A b).toInt = y ∧ ∀ j, j < 8 → j ≠ a → j ≠ b → (A j).toInt = c
theorem zq_P_bd {a b : Nat} {x y c : Int} {A : Nat → Int32} (h : zq_P a b x y c A) (hx : -2000000 ≤ x ∧ x ≤ 2000000) (hy : -2000000 ≤ y ∧ y ≤ 2000000) (hc : -2000000 ≤ c ∧ c ≤ 2000000) : ∀ j, j < 8 → -2000000 ≤ (A j).toInt ∧ (A j).toInt ≤ 2000000 := by
  intro j hj
  by_cases ea : j = a
  · rw [ea, h.1]; exact hx
  · by_cases eb : j = b
    · rw [eb, h.2.1]; exact hy
    · rw [h.2.2 j hj ea eb]; exact hc
def zq_mn (x y : Int) : Int := if x < y then x else y
def zq_mx (x y : Int) : Int := if y < x then x else y
/-- at a stop, x by riding, its neighbour y by riding: with the footpath -/
def zq_fw (f : Nat) (x y : Int) : Int := if 0 < f ∧ y + f < x then y + f else x
def zq_bw (f : Nat) (x y : Int) : Int := if 0 < f ∧ x < y - f then y - f else x
end
section
/-! part 2: walkOn, the footpaths forward -/
section
variable {l t be : Int32} {a1 a2 a3 a4 a5 a6 a7 a8 a9 : Nat → Int32}
theorem zq_w22 {post : St2 → Prop} {J7 : Int32 → Int32 → (Nat → Int32) → (Nat → Int32) → (Nat → Int32) → (Nat → Int32) → (Nat → Int32) → (Nat → Int32) → (Nat → Int32) → (Nat → Int32) → (Nat → Int32) → Prop}
    {c : Nat} (hc : c < 8) {w : Nat → Nat} {x : Int32}
    (hw : ∀ u, u < 8 → a6 (u * 8 + c) = nI (w u) ∧ w u ≤ 30) (h7 : ∀ u, u < 8 → -2000000 ≤ (a7 u).toInt ∧ (a7 u).toInt ≤ 2000000)
    (H : ∀ y : Int32, y.toInt = zq_bst w (fun u => (a7 u).toInt) x.toInt 8 → (a8 c ≤ y → J7 (nI (c + 1)) be a1 a2 a3 a4 a5 a6 a7 a8 a9) ∧ (¬ a8 c ≤ y → J7 (nI (c + 1)) (be ||| ((1 : Int32) <<< (nI c &&& 31))) a1 a2 a3 a4 a5 a6 a7 (upd a8 c y) a9)) :
    ∃ n, wX_walkOn_22 post J7 (nI c) l t be a1 a2 a3 a4 a5 a6 a7 a8 a9 n x 0 := by
  refine pk_loop (fun n i s => wX_walkOn_22 post J7 (nI c) l t be a1 a2 a3 a4 a5 a6 a7 a8 a9 n s (nI i)) (fun i s => s.toInt = zq_bst w (fun u => (a7 u).toInt) x.toInt i) 8 0 x (by omega) rfl ?_ ?_
  · intro n s h
    refine pk_le 8 8 (fun _ => ⟨pk_in c 8 hc, ?_⟩) (fun z => absurd z (by omega))
    rw [nI_clamp (show c < 2 ^ 31 by omega)]
    obtain ⟨H1, H2⟩ := H s h
    exact ⟨fun z => nm_r (nI_1 c) (H1 z), fun z => ⟨pk_in c 8 hc, nm_e (nm_e (nm_r (nI_1 c) (H2 z)))⟩⟩
  · intro n i s hi h hk
    obtain ⟨hwi, hwb⟩ := hw i hi
    obtain ⟨hl, hu⟩ := h7 i hi
    have hs : ∀ s' : Int32, s'.toInt = (if 0 < w i ∧ (a7 i).toInt + w i < s.toInt then (a7 i).toInt + w i else s.toInt) → wX_walkOn_22 post J7 (nI c) l t be a1 a2 a3 a4 a5 a6 a7 a8 a9 n s' (nI (i + 1)) := by
      intro s' e
      refine hk s' ?_
      rw [e, h]
      rfl
    refine pk_le 8 i (fun z => absurd z (by omega)) (fun _ => ?_)
    rw [zq_cell, nI_clamp (show i * 8 + c < 2 ^ 31 by omega), nI_clamp (show i < 2 ^ 31 by omega)]
    refine ⟨pk_in (i * 8 + c) 64 (by omega), nm_r hwi ?_⟩
    refine pk_le (w i) 0 (fun z => nm_r (nI_1 i) (hs s (by rw [if_neg (fun y => absurd y.1 (by omega))]))) (fun z => ⟨pk_in i 8 hi, ?_⟩)
    have ea : (a7 i + nI (w i)).toInt = (a7 i).toInt + w i := zq_add _ _ rfl (nI_toInt (by omega)) (by omega) (by omega)
    refine zq_le _ _ rfl ea (fun y => nm_r (nI_1 i) (hs s (by rw [if_neg (fun q => absurd q.2 (by omega))]))) (fun y => ⟨pk_in i 8 hi, nm_e (nm_r (nI_1 i) (hs _ (by rw [if_pos ⟨z, y⟩, ea])))⟩)
/-- what walkOn makes of the times at stop j -/
def zq_B (w : Nat → Nat → Nat) (A : Nat → Int32) (j : Nat) : Int := zq_bst (fun u => w u j) (fun u => (A u).toInt) (A j).toInt 8
theorem zq_walkOn {post : St2 → Prop} {w : Nat → Nat → Nat}
    (hw : ∀ u c, u < 8 → c < 8 → a6 (u * 8 + c) = nI (w u c) ∧ w u c ≤ 30) (h7 : ∀ u, u < 8 → -2000000 ≤ (a7 u).toInt ∧ (a7 u).toInt ≤ 2000000)
    (H : ∀ (be' : Int32) (a8' : Nat → Int32), (∀ j, j < 8 → (a8' j).toInt = zq_mn (zq_B w a7 j) (a8 j).toInt) → (∀ j, j < 8 → zq_B w a7 j < (a8 j).toInt → zq_bit be' j) → post (l, t, be', a1, a2, a3, a4, a5, a6, a7, a8', a9)) :
    wpX_walkOn post (l, t, be, a1, a2, a3, a4, a5, a6, a7, a8, a9) := by
  refine pk_loop (σ := Int32 × (Nat → Int32)) (fun n i s => wX_walkOn_7 post l t n (nI i) s.1 a1 a2 a3 a4 a5 a6 a7 s.2 a9)
    (fun i s => (∀ j, j < i → (s.2 j).toInt = zq_mn (zq_B w a7 j) (a8 j).toInt) ∧ (∀ j, j < i → zq_B w a7 j < (a8 j).toInt → zq_bit s.1 j) ∧ (∀ j, i ≤ j → s.2 j = a8 j)) 8 0 ((0 : Int32), a8) (by omega)
    ⟨fun j hj => absurd hj (by omega), fun j hj => absurd hj (by omega), fun j _ => rfl⟩ ?_ ?_
  · intro n s h
    exact pk_le 8 8 (fun _ => H s.1 s.2 h.1 h.2.1) (fun z => absurd z (by omega))
  · intro n i s hi h hk
    obtain ⟨h1, h2, h3⟩ := h
    refine pk_le 8 i (fun z => absurd z (by omega)) (fun _ => ⟨pk_in i 8 hi, ?_⟩)
    rw [nI_clamp (show i < 2 ^ 31 by omega)]
    refine nm_e (zq_w22 hi (w := fun u => w u i) (fun u hu => hw u i hu hi) h7 ?_)
    intro y hy
    have hy' : y.toInt = zq_B w a7 i := hy
    have e8 : s.2 i = a8 i := h3 i (Nat.le_refl i)
    refine zq_le _ _ rfl hy' (fun z => hk (s.1, s.2) ⟨?_, ?_, fun j hj => h3 j (by omega)⟩) (fun z => hk (_, upd s.2 i y) ⟨?_, ?_, ?_⟩)
    · intro j hj
      by_cases e : j = i
      · rw [e, e8]
        unfold zq_mn
        rw [e8] at z
        rw [if_neg (by omega)]
      · exact h1 j (by omega)
    · intro j hj hb
      by_cases e : j = i
      · rw [e8] at z
        rw [e] at hb
        omega
      · exact h2 j (by omega) hb
    · intro j hj
      show (upd s.2 i y j).toInt = _
      by_cases e : j = i
      · rw [e, pk_us, hy']
        unfold zq_mn
        rw [e8] at z
        rw [if_pos z]
      · rw [pk_un e]
        exact h1 j (by omega)
    · intro j hj hb
      show zq_bit (s.1 ||| ((1 : Int32) <<< (nI i &&& 31))) j
      by_cases e : j = i
      · rw [e]
        exact zq_bit_set hi
      · exact zq_bit_or (by omega) (h2 j (by omega) hb)
    · intro j hj
      show upd s.2 i y j = a8 j
      rw [pk_un (by omega)]
      exact h3 j (by omega)
end
theorem zq_W_le {a b f i j : Nat} (hf : f ≤ 30) : zq_W a b f i j ≤ 30 := by
  unfold zq_W
  split
  · exact hf
  · omega
theorem zq_W_ba {a b f : Nat} : zq_W a b f b a = f := if_pos (Or.inr ⟨rfl, rfl⟩)
theorem zq_W_ab {a b f : Nat} : zq_W a b f a b = f := if_pos (Or.inl ⟨rfl, rfl⟩)
theorem zq_W_a {a b f u : Nat} (hab : a ≠ b) (h : u ≠ b) : zq_W a b f u a = 0 := if_neg (by omega)
theorem zq_W_b {a b f u : Nat} (hab : a ≠ b) (h : u ≠ a) : zq_W a b f u b = 0 := if_neg (by omega)
theorem zq_W_j {a b f u j : Nat} (ha : j ≠ a) (hb : j ≠ b) : zq_W a b f u j = 0 := if_neg (by omega)
theorem zq_B_a {a b f : Nat} {x y c : Int} {A : Nat → Int32} (hab : a ≠ b) (hb : b < 8) (h : zq_P a b x y c A) : zq_B (zq_W a b f) A a = zq_fw f x y := by
  unfold zq_B
  rw [zq_bst_1 (p := b) 8 hb (fun u _ hn => zq_W_a hab hn), zq_W_ba, h.1, h.2.1]
  rfl
theorem zq_B_b {a b f : Nat} {x y c : Int} {A : Nat → Int32} (hab : a ≠ b) (ha : a < 8) (h : zq_P a b x y c A) : zq_B (zq_W a b f) A b = zq_fw f y x := by
  unfold zq_B
  rw [zq_bst_1 (p := a) 8 ha (fun u _ hn => zq_W_b hab hn), zq_W_ab, h.1, h.2.1]
  rfl
theorem zq_B_j {a b f j : Nat} {x y c : Int} {A : Nat → Int32} (hj : j < 8) (ha : j ≠ a) (hb : j ≠ b) (h : zq_P a b x y c A) : zq_B (zq_W a b f) A j = c := by
  unfold zq_B
  rw [zq_bst_0 8 (fun u _ => zq_W_j ha hb), h.2.2 j hj ha hb]
/-- walkOn over the law's timetable -/
theorem zq_walkT {post : St2 → Prop} {a b m f s : Nat} {l t be : Int32} {a1 a2 a3 a4 a5 a6 a7 a8 a9 : Nat → Int32} {x y X Y : Int} (hT : zq_T a b m f s a1 a2 a3 a4 a5 a6)
    (h7 : zq_P a b x y 1000000 a7) (h8 : zq_P a b X Y 1000000 a8) (hx : -2000000 ≤ x ∧ x ≤ 2000000) (hy : -2000000 ≤ y ∧ y ≤ 2000000)
    (H : ∀ (be' : Int32) (a8' : Nat → Int32), zq_P a b (zq_mn (zq_fw f x y) X) (zq_mn (zq_fw f y x) Y) 1000000 a8' → (zq_fw f x y < X → zq_bit be' a) → (zq_fw f y x < Y → zq_bit be' b) → post (l, t, be', a1, a2, a3, a4, a5, a6, a7, a8', a9)) :
    wpX_walkOn post (l, t, be, a1, a2, a3, a4, a5, a6, a7, a8, a9) := by
  obtain ⟨⟨ha, hb, hab, hm1, hm, hf, hs⟩, t1, t2a, t2b, t3a, t3b, t4, t5, t6⟩ := hT
  refine zq_walkOn (w := zq_W a b f) (fun u c hu hc => ⟨t6 u c hu hc, zq_W_le hf⟩) (zq_P_bd h7 hx hy (by omega)) ?_
  intro be' a8' e1 e2
  refine H be' a8' ⟨?_, ?_, ?_⟩ ?_ ?_
  · rw [e1 a ha, zq_B_a hab hb h7, h8.1]
  · rw [e1 b hb, zq_B_b hab ha h7, h8.2.1]
  · intro j hj na nb
    rw [e1 j hj, zq_B_j hj na nb h7, h8.2.2 j hj na nb]
    rfl
  · intro z
    exact e2 a ha (by rw [zq_B_a hab hb h7, h8.1]; exact z)
  · intro z
    exact e2 b hb (by rw [zq_B_b hab ha h7, h8.2.1]; exact z)
end
section
/-! part 3: begin, catchTrip, rideLine, nextRound, plan -/
abbrev zq_J : Type := Int32 → Int32 → (Nat → Int32) → (Nat → Int32) → (Nat → Int32) → (Nat → Int32) → (Nat → Int32) → (Nat → Int32) → (Nat → Int32) → (Nat → Int32) → (Nat → Int32) → Prop
theorem zq_P_all {a b : Nat} (ha : a < 8) (hb : b < 8) {c : Int} {v : Int32} (hv : v.toInt = c) {A : Nat → Int32} (h : ∀ j, j < 8 → A j = v) : zq_P a b c c c A :=
  ⟨by rw [h a ha, hv], by rw [h b hb, hv], fun j hj _ _ => by rw [h j hj, hv]⟩
theorem zq_P_ua {a b : Nat} {x y c : Int} {A : Nat → Int32} (hab : a ≠ b) (h : zq_P a b x y c A) {v : Int32} {x' : Int} (hv : v.toInt = x') : zq_P a b x' y c (upd A a v) :=
  ⟨by rw [pk_us, hv], by rw [pk_un (Ne.symm hab)]; exact h.2.1, fun j hj na nb => by rw [pk_un na]; exact h.2.2 j hj na nb⟩
theorem zq_P_ub {a b : Nat} {x y c : Int} {A : Nat → Int32} (hab : a ≠ b) (h : zq_P a b x y c A) {v : Int32} {y' : Int} (hv : v.toInt = y') : zq_P a b x y' c (upd A b v) :=
  ⟨by rw [pk_un hab]; exact h.1, by rw [pk_us, hv], fun j hj na nb => by rw [pk_un nb]; exact h.2.2 j hj na nb⟩
section
variable {a b m f s : Nat} {l t be : Int32} {a1 a2 a3 a4 a5 a6 a7 a8 a9 : Nat → Int32}
theorem zq_fillU {A : Nat → Int32} {i : Nat} {v : Int32} (h : ∀ j, j < i → A j = v) : ∀ j, j < i + 1 → upd A i v j = v := by
  intro j hj
  by_cases e : j = i
  · rw [e, pk_us]
  · rw [pk_un e]
    exact h j (by omega)
theorem zq_copyU {A B : Nat → Int32} {i : Nat} (h : ∀ j, j < i → A j = B j) : ∀ j, j < i + 1 → upd A i (B i) j = B j := by
  intro j hj
  by_cases e : j = i
  · rw [e, pk_us]
  · rw [pk_un e]
    exact h j (by omega)
theorem zq_begin {post : St2 → Prop} {p : Nat} (hp : p < 8) {x2 : Int32} {x y : Int} (hT : zq_T a b m f s a1 a2 a3 a4 a5 a6)
    (hP : ∀ A : Nat → Int32, zq_P a b 1000000 1000000 1000000 A → zq_P a b x y 1000000 (upd A p x2)) (hx : -2000000 ≤ x ∧ x ≤ 2000000) (hy : -2000000 ≤ y ∧ y ≤ 2000000)
    (H : ∀ (be' : Int32) (a7' a8' : Nat → Int32), zq_P a b (zq_mn (zq_fw f x y) 1000000) (zq_mn (zq_fw f y x) 1000000) 1000000 a8' → (zq_fw f x y < 1000000 → zq_bit be' a) → (zq_fw f y x < 1000000 → zq_bit be' b) → post (l, t, be', a1, a2, a3, a4, a5, a6, a7', a8', a9)) :
    wpX_begin post (l, t, be, a1, a2, a3, a4, a5, a6, a7, a8, a9) (nI p) x2 := by
  have hT' := hT
  obtain ⟨⟨ha, hb, hab, hm1, hm, hf, hs⟩, _⟩ := hT'
  refine pk_loop (σ := (Nat → Int32) × (Nat → Int32)) (fun n i z => wX_begin_2 post (nI p) x2 l t be n (nI i) a1 a2 a3 a4 a5 a6 z.1 z.2 a9) (fun i z => (∀ j, j < i → z.1 j = 1000000) ∧ (∀ j, j < i → z.2 j = 1000000)) 8 0 (a7, a8) (by omega)
    ⟨fun j hj => absurd hj (by omega), fun j hj => absurd hj (by omega)⟩ ?_ ?_
  · intro n z h
    refine pk_le 8 8 (fun _ => ⟨pk_in p 8 hp, ?_⟩) (fun z => absurd z (by omega))
    rw [nI_clamp (show p < 2 ^ 31 by omega)]
    refine nm_e (zq_walkT hT (hP z.1 (zq_P_all ha hb zq_far h.1)) (zq_P_all ha hb zq_far h.2) hx hy ?_)
    intro be' a8' e1 e2 e3
    exact H be' _ a8' e1 e2 e3
  · intro n i z hi h hk
    refine pk_le 8 i (fun z => absurd z (by omega)) (fun _ => ?_)
    rw [nI_clamp (show i < 2 ^ 31 by omega)]
    exact ⟨pk_in i 8 hi, nm_e ⟨pk_in i 8 hi, nm_e (nm_r (nI_1 i) (hk (upd z.1 i 1000000, upd z.2 i 1000000) ⟨zq_fillU h.1, zq_fillU h.2⟩))⟩⟩
theorem zq_catch {post : Int32 → Prop} {i o : Nat} {x3 : Int32} (hs : s ≤ 500) (h4 : a4 0 = nI 0) (h5 : a5 0 = nI s) (hi : i < 30) (h3 : a3 i = nI o) (ho : o ≤ 30)
    (H : ∀ r : Int32, r.toInt = (if x3.toInt ≤ (s : Int) + o then (s : Int) else 1000000) → post r) :
    wpX_catchTrip post (l, nI 1, be, a1, a2, a3, a4, a5, a6, a7, a8, a9) 0 (nI i) x3 := by
  have e1 : ∀ r : Int32, r.toInt = (if x3.toInt ≤ (s : Int) + o then (s : Int) else 1000000) → wX_catchTrip_7 post 0 (nI i) x3 l (nI 1) be a1 a2 a3 a4 a5 a6 a7 a8 a9 1 r (nI 1) :=
    fun r hr => pk_le 1 1 (fun _ => H r hr) (fun z => absurd z (by omega))
  have key : wX_catchTrip_7 post 0 (nI i) x3 l (nI 1) be a1 a2 a3 a4 a5 a6 a7 a8 a9 2 1000000 (nI 0) := by
    refine pk_le 1 0 (fun z => absurd z (by omega)) (fun _ => ?_)
    rw [zq_l0, nI_clamp (show i < 2 ^ 31 by omega), nI_clamp (show 0 < 2 ^ 31 by omega), h4, h5, h3]
    refine ⟨pk_in 0 12 (by omega), br_t rfl ⟨pk_in 0 12 (by omega), pk_in i 30 hi, ?_⟩⟩
    have ea : (nI s + nI o).toInt = (s : Int) + o := zq_add _ _ (nI_toInt (by omega)) (nI_toInt (by omega)) (by omega) (by omega)
    refine zq_lt _ _ ea rfl (fun z => nm_r (nI_1 0) (e1 _ (by rw [if_neg (by omega)]; exact zq_far))) (fun z => ⟨pk_in 0 12 (by omega), ?_⟩)
    refine zq_le _ _ zq_far (nI_toInt (n := s) (by omega)) (fun y => absurd y (by omega)) (fun y => ⟨pk_in 0 12 (by omega), nm_e (nm_r (nI_1 0) (e1 _ (by rw [if_pos z]; exact nI_toInt (by omega))))⟩)
  exact Exists.intro 2 key
theorem zq_r70 {post : St2 → Prop} {J5 : zq_J} {i o c : Nat} {x2 x5 : Int32} (hs : s ≤ 500) (h4 : a4 0 = nI 0) (h5 : a5 0 = nI s) (hi : i < 30) (h3 : a3 i = nI o) (ho : o ≤ 30) (hc : c < 8) (hx2 : x2.toInt ≤ 1000000)
    (H : ∀ r : Int32, (r = x2 ∨ (r.toInt = s ∧ (a9 c).toInt ≤ (s : Int) + o)) → (zq_bit be c → x2 = 1000000 → (a9 c).toInt ≤ (s : Int) + o → r.toInt = s) → J5 r (nI (i + 1)) a1 a2 a3 a4 a5 a6 a7 a8 a9) :
    wX_rideLine_70 post J5 0 x2 (nI i) (nI c) x5 l (nI 1) be a1 a2 a3 a4 a5 a6 a7 a8 a9 := by
  have h113 : wX_rideLine_113 post J5 0 x2 (nI i) (nI c) l (nI 1) be a1 a2 a3 a4 a5 a6 a7 a8 a9 := by
    unfold wX_rideLine_113
    rw [nI_clamp (show c < 2 ^ 31 by omega)]
    refine ⟨pk_in c 8 hc, zq_catch hs h4 h5 hi h3 ho ?_⟩
    intro r hr
    refine zq_le _ _ rfl hr (fun z => nm_r (nI_1 i) (H x2 (Or.inl rfl) (fun _ e g => ?_))) (fun z => nm_r (nI_1 i) (H r ?_ ?_))
    · rw [if_pos g, e, zq_far] at z
      omega
    · by_cases g : (a9 c).toInt ≤ (s : Int) + o
      · rw [if_pos g] at hr
        exact Or.inr ⟨hr, g⟩
      · rw [if_neg g] at z
        omega
    · intro _ _ g
      rw [if_pos g] at hr
      exact hr
  unfold wX_rideLine_70
  refine br_c (fun hm => ?_) (fun hm => ?_)
  · unfold wX_rideLine_88
    refine br_f (by decide) (br_c (fun _ => h113) (fun hn => ⟨pk_in c 8 hc, br_c (fun _ => nm_r (nI_1 i) (H x2 (Or.inl rfl) (fun _ e => absurd e hn))) (fun _ => h113)⟩))
  · unfold wX_rideLine_88
    exact br_t rfl (nm_r (nI_1 i) (H x2 (Or.inl rfl) (fun g => absurd g hm)))
theorem zq_rideLine {post : St2 → Prop} (hT : zq_T a b m f s a1 a2 a3 a4 a5 a6) (h7 : zq_P a b 1000000 1000000 1000000 a7)
    (H : ∀ (a7' : Nat → Int32) (y : Int), zq_P a b 1000000 y 1000000 a7' → (y = 1000000 ∨ (y = (s : Int) + m ∧ (a9 a).toInt ≤ s)) → (zq_bit be a → (a9 a).toInt ≤ s → y = (s : Int) + m) → post (l, nI 1, be, a1, a2, a3, a4, a5, a6, a7', a8, a9)) :
    wpX_rideLine post (l, nI 1, be, a1, a2, a3, a4, a5, a6, a7, a8, a9) 0 := by
  obtain ⟨⟨ha, hb, hab, hm1, hm, hf, hs⟩, t1, t2a, t2b, t3a, t3b, t4, t5, t6⟩ := hT
  have ex : ∀ (r : Int32) (a7' : Nat → Int32), post (l, nI 1, be, a1, a2, a3, a4, a5, a6, a7', a8, a9) → wX_rideLine_5 post 0 l (nI 1) be 1 r (nI 2) a1 a2 a3 a4 a5 a6 a7' a8 a9 := by
    intro r a7' h
    refine And.intro (pk_in 0 5 (by omega)) ?_
    rw [zq_cl0, t1]
    exact pk_le 2 2 (fun _ => h) (fun z => absurd z (by omega))
  have it2 : ∀ r : Int32, (r.toInt = 1000000 ∨ (r.toInt = s ∧ (a9 a).toInt ≤ s)) → (zq_bit be a → (a9 a).toInt ≤ s → r.toInt = s) → wX_rideLine_5 post 0 l (nI 1) be 2 r (nI 1) a1 a2 a3 a4 a5 a6 a7 a8 a9 := by
    intro r h1 h2
    refine And.intro (pk_in 0 5 (by omega)) ?_
    rw [zq_cl0, t1, zq_l0, nI_clamp (show 1 < 2 ^ 31 by omega), t2b, t3b]
    refine pk_le 2 1 (fun z => absurd z (by omega)) (fun _ => ⟨pk_in 1 30 (by omega), nm_e ⟨pk_in 1 30 (by omega), nm_e ?_⟩⟩)
    have em : (r + nI m).toInt = r.toInt + m := zq_add _ _ rfl (nI_toInt (by omega)) (by omega) (by omega)
    refine zq_le _ _ zq_far rfl (fun z => ?_) (fun z => ⟨pk_in b 8 hb, ?_⟩)
    · exact zq_r70 hs t4 t5 (by omega) t3b (by omega) hb (by omega) (fun r' _ _ => ex r' a7 (H a7 1000000 h7 (Or.inl rfl) (fun g1 g2 => by have := h2 g1 g2; omega)))
    · rw [nI_clamp (show b < 2 ^ 31 by omega)]
      refine zq_le _ _ h7.2.1 em (fun y => by omega) (fun y => ⟨pk_in b 8 hb, nm_e ?_⟩)
      refine zq_r70 hs t4 t5 (by omega) t3b (by omega) hb (by omega) (fun r' _ _ => ex r' _ (H (upd a7 b (r + nI m)) ((s : Int) + m) (zq_P_ub hab h7 (by omega)) (Or.inr ⟨rfl, by omega⟩) (fun _ _ => rfl)))
  have it1 : wX_rideLine_5 post 0 l (nI 1) be 3 1000000 (nI 0) a1 a2 a3 a4 a5 a6 a7 a8 a9 := by
    refine And.intro (pk_in 0 5 (by omega)) ?_
    rw [zq_cl0, t1, zq_l0, nI_clamp (show 0 < 2 ^ 31 by omega), t2a, t3a]
    refine pk_le 2 0 (fun z => absurd z (by omega)) (fun _ => ⟨pk_in 0 30 (by omega), nm_e ⟨pk_in 0 30 (by omega), nm_e ?_⟩⟩)
    refine zq_le _ _ zq_far zq_far (fun _ => ?_) (fun z => absurd z (by omega))
    refine zq_r70 hs t4 t5 (by omega) t3a (by omega) ha (by rw [zq_far]; omega) (fun r h1 h2 => it2 r ?_ ?_)
    · rcases h1 with e | ⟨e, g⟩
      · exact Or.inl (by rw [e, zq_far])
      · exact Or.inr ⟨e, by omega⟩
    · intro g1 g2
      exact h2 g1 rfl (by omega)
  exact Exists.intro 3 it1
theorem zq_n36 {post : St2 → Prop} {X Y : Int} (hT : zq_T a b m f s a1 a2 a3 a4 a5 a6) (h7 : zq_P a b 1000000 1000000 1000000 a7) (h8 : zq_P a b X Y 1000000 a8) (h9 : (a9 a).toInt = X)
    (H : ∀ (be' : Int32) (a7' a8' : Nat → Int32) (y : Int), (y = 1000000 ∨ (y = (s : Int) + m ∧ X ≤ s)) → (zq_bit be a → X ≤ s → y = (s : Int) + m) → zq_P a b (zq_mn (zq_fw f 1000000 y) X) (zq_mn (zq_fw f y 1000000) Y) 1000000 a8' → post (nI 1, nI 1, be', a1, a2, a3, a4, a5, a6, a7', a8', a9)) :
    ∃ n, wX_nextRound_36 post n 0 (nI 1) (nI 1) be a1 a2 a3 a4 a5 a6 a7 a8 a9 := by
  have hT' := hT
  obtain ⟨⟨ha, hb, hab, hm1, hm, hf, hs⟩, _⟩ := hT'
  refine Exists.intro 2 ?_
  refine pk_le 1 0 (fun z => absurd z (by omega)) (fun _ => zq_rideLine hT h7 ?_)
  intro a7' y p1 p2 p3
  rw [h9] at p2 p3
  refine nm_r (nI_1 0) ?_
  refine pk_le 1 1 (fun _ => zq_walkT hT p1 h8 (by omega) (by omega) ?_) (fun z => absurd z (by omega))
  intro be' a8' e8 _ _
  exact H be' a7' a8' y p2 p3 e8
theorem zq_next {post : St2 → Prop} {X Y : Int} (hT : zq_T a b m f s a1 a2 a3 a4 a5 a6) (h8 : zq_P a b X Y 1000000 a8)
    (H : ∀ (be' : Int32) (a7' a8' a9' : Nat → Int32) (y : Int), (y = 1000000 ∨ (y = (s : Int) + m ∧ X ≤ s)) → (zq_bit be a → X ≤ s → y = (s : Int) + m) → zq_P a b (zq_mn (zq_fw f 1000000 y) X) (zq_mn (zq_fw f y 1000000) Y) 1000000 a8' → post (nI 1, nI 1, be', a1, a2, a3, a4, a5, a6, a7', a8', a9')) :
    wpX_nextRound post (nI 1, nI 1, be, a1, a2, a3, a4, a5, a6, a7, a8, a9) := by
  have hT' := hT
  obtain ⟨⟨ha, hb, hab, hm1, hm, hf, hs⟩, _⟩ := hT'
  refine pk_loop (σ := (Nat → Int32) × (Nat → Int32)) (fun n i z => wX_nextRound_2 post (nI 1) (nI 1) be n (nI i) a1 a2 a3 a4 a5 a6 z.1 a8 z.2) (fun i z => (∀ j, j < i → z.1 j = 1000000) ∧ (∀ j, j < i → z.2 j = a8 j)) 8 0 (a7, a9) (by omega)
    ⟨fun j hj => absurd hj (by omega), fun j hj => absurd hj (by omega)⟩ ?_ ?_
  · intro n z h
    refine pk_le 8 8 (fun _ => ?_) (fun z => absurd z (by omega))
    exact zq_n36 hT (zq_P_all ha hb zq_far h.1) h8 (by rw [h.2 a ha]; exact h8.1) (fun be' a7' a8' y q1 q2 q3 => H be' a7' a8' z.2 y q1 q2 q3)
  · intro n i z hi h hk
    refine pk_le 8 i (fun z => absurd z (by omega)) (fun _ => ?_)
    rw [nI_clamp (show i < 2 ^ 31 by omega)]
    exact ⟨pk_in i 8 hi, pk_in i 8 hi, nm_e ⟨pk_in i 8 hi, nm_e (nm_r (nI_1 i) (hk (upd z.1 i 1000000, upd z.2 i (a8 i)) ⟨zq_fillU h.1, zq_copyU h.2⟩))⟩⟩
/-- the rounds of plan, at most K, by an invariant of yours over the mask and the two times -/
theorem zq_plan9 {post : St2 → Prop} {K : Nat} (hK : K ≤ 12) (I : Nat → Int32 → Int → Int → Prop) (hT : zq_T a b m f s a1 a2 a3 a4 a5 a6)
    (hstep : ∀ (k : Nat) (be be' : Int32) (X Y y : Int), k < K → I k be X Y → (y = 1000000 ∨ (y = (s : Int) + m ∧ X ≤ s)) → (zq_bit be a → X ≤ s → y = (s : Int) + m) → I (k + 1) be' (zq_mn (zq_fw f 1000000 y) X) (zq_mn (zq_fw f y 1000000) Y))
    (H : ∀ (k : Nat) (be : Int32) (a7 a8 a9 : Nat → Int32) (X Y : Int), k ≤ K → I k be X Y → (k = K ∨ be = 0) → zq_P a b X Y 1000000 a8 → post (nI 1, nI 1, be, a1, a2, a3, a4, a5, a6, a7, a8, a9))
    {X Y : Int} (h8 : zq_P a b X Y 1000000 a8) (hI : I 0 be X Y) :
    ∃ n, wX_plan_9 post (nI K) n 0 (nI 1) (nI 1) be a1 a2 a3 a4 a5 a6 a7 a8 a9 := by
  refine pk_loop (σ := Int32 × (Nat → Int32) × (Nat → Int32) × (Nat → Int32)) (fun n i z => wX_plan_9 post (nI K) n (nI i) (nI 1) (nI 1) z.1 a1 a2 a3 a4 a5 a6 z.2.1 z.2.2.1 z.2.2.2)
    (fun i z => ∃ X Y : Int, zq_P a b X Y 1000000 z.2.2.1 ∧ I i z.1 X Y) K 0 (be, a7, a8, a9) (by omega) ⟨X, Y, h8, hI⟩ ?_ ?_
  · intro n z h
    obtain ⟨X', Y', g8, gI⟩ := h
    exact pk_le K K (fun _ => H K z.1 z.2.1 z.2.2.1 z.2.2.2 X' Y' (Nat.le_refl K) gI (Or.inl rfl) g8) (fun z => absurd z (by omega))
  · intro n i z hi h hk
    obtain ⟨X', Y', g8, gI⟩ := h
    refine pk_le K i (fun z => absurd z (by omega)) (fun _ => br_c (fun e => H i z.1 z.2.1 z.2.2.1 z.2.2.2 X' Y' (Nat.le_of_lt hi) gI (Or.inr e) g8) (fun _ => zq_next hT g8 ?_))
    intro be' a7' a8' a9' y q1 q2 q3
    exact nm_r (nI_1 i) (hk (be', a7', a8', a9') ⟨_, _, q3, hstep i z.1 be' X' Y' y hi gI q1 q2⟩)
end
end
section
/-! part 4: the questions forward: earliest, earliestWith, rides -/
theorem zq_mn_s (x y : Int) : (x < y ∧ zq_mn x y = x) ∨ (y ≤ x ∧ zq_mn x y = y) := by
  unfold zq_mn
  split <;> omega
theorem zq_fw_s (f : Nat) (x y : Int) : (0 < f ∧ y + f < x ∧ zq_fw f x y = y + f) ∨ (¬ (0 < f ∧ y + f < x) ∧ zq_fw f x y = x) := by
  unfold zq_fw
  split <;> omega
/-- on foot alone -/
def zq_wk (f q : Nat) : Int := if 0 < f then (q : Int) + f else 1000000
/-- the best: by a ride or on foot -/
def zq_fin (m f s q : Nat) : Int := if q ≤ s ∧ (s : Int) + m < zq_wk f q then (s : Int) + m else zq_wk f q
theorem zq_wk_s (f q : Nat) : (0 < f ∧ zq_wk f q = (q : Int) + f) ∨ (f = 0 ∧ zq_wk f q = 1000000) := by
  unfold zq_wk
  split <;> omega
theorem zq_fin_s (m f s q : Nat) : (q ≤ s ∧ (s : Int) + m < zq_wk f q ∧ zq_fin m f s q = (s : Int) + m) ∨ (¬ (q ≤ s ∧ (s : Int) + m < zq_wk f q) ∧ zq_fin m f s q = zq_wk f q) := by
  unfold zq_fin
  split <;> omega
/-- what arrivalAt answers at a time v -/
def zq_an (v : Int) : Int := if v < 1000000 then v else -5
/-- how many rides -/
def zq_rd (m f s q : Nat) : Int := if q ≤ s ∧ (s : Int) + m < zq_wk f q then 1 else if zq_wk f q < 1000000 then 0 else -5
theorem zq_rd_s (m f s q : Nat) : (q ≤ s ∧ (s : Int) + m < zq_wk f q ∧ zq_rd m f s q = 1) ∨ (¬ (q ≤ s ∧ (s : Int) + m < zq_wk f q) ∧ zq_wk f q < 1000000 ∧ zq_rd m f s q = 0) ∨ (¬ (q ≤ s ∧ (s : Int) + m < zq_wk f q) ∧ ¬ zq_wk f q < 1000000 ∧ zq_rd m f s q = -5) := by
  unfold zq_rd
  split
  · omega
  · split <;> omega
section
variable {a b m f s q : Nat} {l t be : Int32} {a1 a2 a3 a4 a5 a6 a7 a8 a9 : Nat → Int32}
theorem zq_badStop {post : Int32 → Prop} {p : Nat} (hp : p < 8) (H : post 0) : wpX_badStop post () (nI p) :=
  pk_lt p 0 (fun z => absurd z (by omega)) (fun _ => pk_lt p 8 (fun _ => H) (fun z => absurd z (by omega)))
theorem zq_badTime {post : Int32 → Prop} {p : Nat} (hp : p ≤ 1000) (H : post 0) : wpX_badTime post () (nI p) :=
  pk_lt p 0 (fun z => absurd z (by omega)) (fun _ => pk_le p 1000 (fun _ => H) (fun z => absurd z (by omega)))
theorem zq_refusal {post : Int32 → Prop} {p p' : Nat} (hp : p < 8) (hp' : p' < 8) (hq : q ≤ 1000) (H : post 0) : wpX_refusal post (l, t, be, a1, a2, a3, a4, a5, a6, a7, a8, a9) (nI p) (nI p') (nI q) := by
  unfold wpX_refusal
  exact zq_badStop hp (br_t rfl (zq_badStop hp' (br_t rfl (zq_badTime hq (br_t rfl H)))))
theorem zq_arr {post : Int32 → Prop} {p : Nat} {v : Int} (hp : p < 8) (h : (a8 p).toInt = v) (H : ∀ r : Int32, r.toInt = zq_an v → post r) : wpX_arrivalAt post (l, t, be, a1, a2, a3, a4, a5, a6, a7, a8, a9) (nI p) := by
  unfold wpX_arrivalAt
  refine And.intro (pk_in p 8 hp) ?_
  rw [nI_clamp (show p < 2 ^ 31 by omega)]
  refine zq_lt _ _ h zq_far (fun z => ⟨pk_in p 8 hp, H _ ?_⟩) (fun z => H _ ?_)
  · unfold zq_an
    rw [if_pos z, h]
  · unfold zq_an
    rw [if_neg (by omega)]
    exact zq_n5
theorem zq_plan {post : St2 → Prop} {K : Nat} (hK : K ≤ 12) (I : Nat → Int32 → Int → Int → Prop) (hT : zq_T a b m f s a1 a2 a3 a4 a5 a6)
    {p : Nat} (hp : p < 8) {x2 : Int32} {x y : Int} (hP : ∀ A : Nat → Int32, zq_P a b 1000000 1000000 1000000 A → zq_P a b x y 1000000 (upd A p x2)) (hx : -2000000 ≤ x ∧ x ≤ 2000000) (hy : -2000000 ≤ y ∧ y ≤ 2000000)
    (h0 : ∀ be' : Int32, (zq_fw f x y < 1000000 → zq_bit be' a) → (zq_fw f y x < 1000000 → zq_bit be' b) → I 0 be' (zq_mn (zq_fw f x y) 1000000) (zq_mn (zq_fw f y x) 1000000))
    (hstep : ∀ (k : Nat) (be be' : Int32) (X Y y : Int), k < K → I k be X Y → (y = 1000000 ∨ (y = (s : Int) + m ∧ X ≤ s)) → (zq_bit be a → X ≤ s → y = (s : Int) + m) → I (k + 1) be' (zq_mn (zq_fw f 1000000 y) X) (zq_mn (zq_fw f y 1000000) Y))
    (H : ∀ (k : Nat) (be : Int32) (a7 a8 a9 : Nat → Int32) (X Y : Int), k ≤ K → I k be X Y → (k = K ∨ be = 0) → zq_P a b X Y 1000000 a8 → post (nI 1, nI 1, be, a1, a2, a3, a4, a5, a6, a7, a8, a9)) :
    wpX_plan post (nI 1, nI 1, be, a1, a2, a3, a4, a5, a6, a7, a8, a9) (nI p) x2 (nI K) := by
  unfold wpX_plan
  refine zq_begin hp hT hP hx hy ?_
  intro be' a7' a8' e1 e2 e3
  exact zq_plan9 hK I hT hstep H e1 (h0 be' e2 e3)
theorem zq_be0 {z : Int32} (ha : a < 8) (h : zq_bit z a) : ¬ z = 0 := by
  intro e
  rw [e] at h
  exact zq_bit_0 ha h
theorem zq_st_ab {k : Nat} {g : Prop} {X Y y : Int} (hb : 1 ≤ m ∧ m ≤ 30 ∧ f ≤ 30 ∧ s ≤ 500 ∧ q ≤ 1000) (h : X = q ∧ ((k = 0 ∧ g ∧ Y = zq_wk f q) ∨ (0 < k ∧ Y = zq_fin m f s q)))
    (h1 : y = 1000000 ∨ (y = (s : Int) + m ∧ X ≤ s)) (h2 : g → X ≤ s → y = (s : Int) + m) : zq_mn (zq_fw f 1000000 y) X = q ∧ zq_mn (zq_fw f y 1000000) Y = zq_fin m f s q := by
  have e1 := zq_wk_s f q
  have e2 := zq_fin_s m f s q
  have e3 := zq_mn_s (zq_fw f 1000000 y) X
  have e4 := zq_mn_s (zq_fw f y 1000000) Y
  have e5 := zq_fw_s f 1000000 y
  have e6 := zq_fw_s f y 1000000
  obtain ⟨rfl, h | h⟩ := h
  · have h2' := h2 h.2.1
    omega
  · omega
theorem zq_st_ba {X Y y : Int} (hb : 1 ≤ m ∧ m ≤ 30 ∧ f ≤ 30 ∧ s ≤ 500 ∧ q ≤ 1000) (h : X = zq_wk f q ∧ Y = q)
    (h1 : y = 1000000 ∨ (y = (s : Int) + m ∧ X ≤ s)) : zq_mn (zq_fw f 1000000 y) X = zq_wk f q ∧ zq_mn (zq_fw f y 1000000) Y = q := by
  have e1 := zq_wk_s f q
  have e3 := zq_mn_s (zq_fw f 1000000 y) X
  have e4 := zq_mn_s (zq_fw f y 1000000) Y
  have e5 := zq_fw_s f 1000000 y
  have e6 := zq_fw_s f y 1000000
  omega
theorem zq_bg (hb : f ≤ 30 ∧ q ≤ 1000) : zq_fw f q 1000000 = q ∧ zq_mn (zq_fw f q 1000000) 1000000 = q ∧ zq_mn (zq_fw f 1000000 q) 1000000 = zq_wk f q := by
  have e1 := zq_wk_s f q
  have e3 := zq_mn_s (zq_fw f 1000000 q) 1000000
  have e4 := zq_mn_s (zq_fw f q 1000000) 1000000
  have e5 := zq_fw_s f 1000000 q
  have e6 := zq_fw_s f q 1000000
  omega
theorem zq_earliest_ab {post : Int32 → St2 → Prop} (hT : zq_T a b m f s a1 a2 a3 a4 a5 a6) (hq : q ≤ 1000)
    (H : ∀ (r be' : Int32) (a7' a8' a9' : Nat → Int32), r.toInt = zq_an (zq_fin m f s q) → post r (nI 1, nI 1, be', a1, a2, a3, a4, a5, a6, a7', a8', a9')) :
    wpX_earliest post (nI 1, nI 1, be, a1, a2, a3, a4, a5, a6, a7, a8, a9) (nI a) (nI b) (nI q) := by
  have hT' := hT
  obtain ⟨⟨ha, hb, hab, hm1, hm, hf, hs⟩, _⟩ := hT'
  have eg := zq_bg (f := f) (q := q) ⟨hf, hq⟩
  unfold wpX_earliest
  refine zq_refusal ha hb hq (br_t rfl ?_)
  refine zq_plan (K := 12) (by omega) (fun k be X Y => X = q ∧ ((k = 0 ∧ zq_bit be a ∧ Y = zq_wk f q) ∨ (0 < k ∧ Y = zq_fin m f s q))) hT ha (x := q) (y := 1000000) (fun A hA => zq_P_ua hab hA (nI_toInt (by omega))) (by omega) (by omega) ?_ ?_ ?_
  · intro be' g1 g2
    exact ⟨eg.2.1, Or.inl ⟨rfl, g1 (by rw [eg.1]; omega), eg.2.2⟩⟩
  · intro k be be' X Y y hk h h1 h2
    have := zq_st_ab (by omega) h h1 h2
    exact ⟨this.1, Or.inr ⟨by omega, this.2⟩⟩
  · intro k be' a7' a8' a9' X Y hkK h hk h8
    refine zq_arr hb h8.2.1 (fun r hr => H r be' a7' a8' a9' ?_)
    rcases h.2 with g | g
    · rcases hk with e | e
      · omega
      · exact absurd e (zq_be0 ha g.2.1)
    · rw [hr, g.2]
theorem zq_earliest_ba {post : Int32 → St2 → Prop} (hT : zq_T a b m f s a1 a2 a3 a4 a5 a6) (hq : q ≤ 1000)
    (H : ∀ (r be' : Int32) (a7' a8' a9' : Nat → Int32), r.toInt = zq_an (zq_wk f q) → post r (nI 1, nI 1, be', a1, a2, a3, a4, a5, a6, a7', a8', a9')) :
    wpX_earliest post (nI 1, nI 1, be, a1, a2, a3, a4, a5, a6, a7, a8, a9) (nI b) (nI a) (nI q) := by
  have hT' := hT
  obtain ⟨⟨ha, hb, hab, hm1, hm, hf, hs⟩, _⟩ := hT'
  have eg := zq_bg (f := f) (q := q) ⟨hf, hq⟩
  unfold wpX_earliest
  refine zq_refusal hb ha hq (br_t rfl ?_)
  refine zq_plan (K := 12) (by omega) (fun k be X Y => X = zq_wk f q ∧ Y = q) hT hb (x := 1000000) (y := q) (fun A hA => zq_P_ub hab hA (nI_toInt (by omega))) (by omega) (by omega) ?_ ?_ ?_
  · intro be' g1 g2
    exact ⟨eg.2.2, eg.2.1⟩
  · intro k be be' X Y y hk h h1 h2
    exact zq_st_ba (by omega) h h1
  · intro k be' a7' a8' a9' X Y hkK h hk h8
    exact zq_arr ha h8.1 (fun r hr => H r be' a7' a8' a9' (by rw [hr, h.1]))
theorem zq_with {post : Int32 → St2 → Prop} (hT : zq_T a b m f s a1 a2 a3 a4 a5 a6) (hq : q ≤ 1000)
    (H : ∀ (r be' : Int32) (a7' a8' a9' : Nat → Int32), r.toInt = zq_an (zq_wk f q) → post r (nI 1, nI 1, be', a1, a2, a3, a4, a5, a6, a7', a8', a9')) :
    wpX_earliestWith post (nI 1, nI 1, be, a1, a2, a3, a4, a5, a6, a7, a8, a9) (nI a) (nI b) (nI q) 0 := by
  have hT' := hT
  obtain ⟨⟨ha, hb, hab, hm1, hm, hf, hs⟩, _⟩ := hT'
  have eg := zq_bg (f := f) (q := q) ⟨hf, hq⟩
  unfold wpX_earliestWith
  refine zq_refusal ha hb hq (br_t rfl (br_t (by decide) ?_))
  unfold wX_earliestWith_28
  refine br_t (by decide) ?_
  unfold wX_earliestWith_47
  refine zq_plan (K := 0) (by omega) (fun k be X Y => k = 0 → X = q ∧ Y = zq_wk f q) hT ha (x := q) (y := 1000000) (fun A hA => zq_P_ua hab hA (nI_toInt (by omega))) (by omega) (by omega) ?_ ?_ ?_
  · intro be' g1 g2 _
    exact ⟨eg.2.1, eg.2.2⟩
  · intro k be be' X Y y hk h h1 h2
    omega
  · intro k be' a7' a8' a9' X Y hkK h hk h8
    exact zq_arr hb h8.2.1 (fun r hr => H r be' a7' a8' a9' (by rw [hr, (h (by omega)).2]))
/-- the rounds of rides -/
theorem zq_rides45 {post : Int32 → St2 → Prop} (hT : zq_T a b m f s a1 a2 a3 a4 a5 a6) (hq : q ≤ 1000)
    (H : ∀ (r be' : Int32) (a7' a8' a9' : Nat → Int32), r.toInt = zq_rd m f s q → post r (nI 1, nI 1, be', a1, a2, a3, a4, a5, a6, a7', a8', a9'))
    (h8 : zq_P a b q (zq_wk f q) 1000000 a8) (hbe : zq_bit be a) {x5 : Int32} (h5 : x5.toInt = if zq_wk f q < 1000000 then 0 else -5) :
    ∃ n, wX_rides_45 post (nI b) n x5 1 (nI 1) (nI 1) be a1 a2 a3 a4 a5 a6 a7 a8 a9 := by
  have hT' := hT
  obtain ⟨⟨ha, hb, hab, hm1, hm, hf, hs⟩, _⟩ := hT'
  refine pk_loop (σ := Int32 × Int32 × (Nat → Int32) × (Nat → Int32) × (Nat → Int32)) (fun n i z => wX_rides_45 post (nI b) n z.1 (nI (i + 1)) (nI 1) (nI 1) z.2.1 a1 a2 a3 a4 a5 a6 z.2.2.1 z.2.2.2.1 z.2.2.2.2)
    (fun i z => ∃ X Y : Int, zq_P a b X Y 1000000 z.2.2.2.1 ∧ (X = q ∧ ((i = 0 ∧ zq_bit z.2.1 a ∧ Y = zq_wk f q) ∨ (0 < i ∧ Y = zq_fin m f s q))) ∧ (i = 0 → z.1.toInt = if zq_wk f q < 1000000 then 0 else -5) ∧ (0 < i → z.1.toInt = zq_rd m f s q)) 12 0 (x5, be, a7, a8, a9) (by omega)
    ⟨q, zq_wk f q, h8, ⟨rfl, Or.inl ⟨rfl, hbe, rfl⟩⟩, fun _ => h5, fun z => absurd z (by omega)⟩ ?_ ?_
  · intro n z h
    obtain ⟨X, Y, g8, gI, g0, g1⟩ := h
    exact pk_lt 12 13 (fun _ => H z.1 z.2.1 z.2.2.1 z.2.2.2.1 z.2.2.2.2 (g1 (by omega))) (fun z => absurd z (by omega))
  · intro n i z hi h hk
    obtain ⟨X, Y, g8, gI, g0, g1⟩ := h
    refine pk_lt 12 (i + 1) (fun z => absurd z (by omega)) (fun _ => br_c (fun e => ?_) (fun _ => ⟨pk_in b 8 hb, ?_⟩))
    · have hi0 : 0 < i := by
        rcases gI.2 with g | g
        · exact absurd e (zq_be0 ha g.2.1)
        · exact g.1
      exact H z.1 z.2.1 z.2.2.1 z.2.2.2.1 z.2.2.2.2 (g1 hi0)
    · rw [nI_clamp (show b < 2 ^ 31 by omega)]
      refine nm_e (zq_next hT g8 ?_)
      intro be' a7' a8' a9' y q1 q2 q3
      have st := zq_st_ab (by omega) gI q1 q2
      refine ⟨pk_in b 8 hb, ?_⟩
      refine zq_le _ _ g8.2.1 q3.2.1 (fun z1 => nm_r (nI_1 (i + 1)) (hk (z.1, be', a7', a8', a9') ⟨_, _, q3, ⟨st.1, Or.inr ⟨by omega, st.2⟩⟩, fun e => absurd e (by omega), fun _ => ?_⟩)) (fun z1 => nm_r (nI_1 (i + 1)) (hk (nI (i + 1), be', a7', a8', a9') ⟨_, _, q3, ⟨st.1, Or.inr ⟨by omega, st.2⟩⟩, fun e => absurd e (by omega), fun _ => ?_⟩))
      · show z.1.toInt = zq_rd m f s q
        rw [st.2] at z1
        rcases gI.2 with g | g
        · have e1 := zq_fin_s m f s q
          have e2 := zq_rd_s m f s q
          have e3 := g0 g.1
          rw [g.2.2] at z1
          split at e3 <;> omega
        · exact g1 g.1
      · show (nI (i + 1)).toInt = zq_rd m f s q
        rw [st.2] at z1
        rw [nI_toInt (by omega)]
        rcases gI.2 with g | g
        · have e1 := zq_fin_s m f s q
          have e2 := zq_rd_s m f s q
          rw [g.2.2] at z1
          omega
        · rw [g.2] at z1
          omega
theorem zq_rides {post : Int32 → St2 → Prop} (hT : zq_T a b m f s a1 a2 a3 a4 a5 a6) (hq : q ≤ 1000)
    (H : ∀ (r be' : Int32) (a7' a8' a9' : Nat → Int32), r.toInt = zq_rd m f s q → post r (nI 1, nI 1, be', a1, a2, a3, a4, a5, a6, a7', a8', a9')) :
    wpX_rides post (nI 1, nI 1, be, a1, a2, a3, a4, a5, a6, a7, a8, a9) (nI a) (nI b) (nI q) := by
  have hT' := hT
  obtain ⟨⟨ha, hb, hab, hm1, hm, hf, hs⟩, _⟩ := hT'
  have eg := zq_bg (f := f) (q := q) ⟨hf, hq⟩
  unfold wpX_rides
  refine zq_refusal ha hb hq (br_t rfl ?_)
  refine zq_begin ha hT (x := q) (y := 1000000) (fun A hA => zq_P_ua hab hA (nI_toInt (by omega))) (by omega) (by omega) ?_
  intro be' a7' a8' e1 e2 e3
  rw [eg.2.1, eg.2.2] at e1
  have hbe := e2 (by rw [eg.1]; omega)
  refine And.intro (pk_in b 8 hb) ?_
  rw [nI_clamp (show b < 2 ^ 31 by omega)]
  refine zq_le _ _ zq_far e1.2.1 (fun z => zq_rides45 hT hq H e1 hbe ?_) (fun z => zq_rides45 hT hq H e1 hbe ?_)
  · rw [if_neg (by omega)]
    exact zq_n5
  · rw [if_pos z]
    exact zq_z0
end
end
section
/-! part 5: walkBack, meetTrip, rideLineBack -/
section
variable {l t be : Int32} {a1 a2 a3 a4 a5 a6 a7 a8 a9 : Nat → Int32}
theorem zq_v22 {post : St2 → Prop} {J7 : zq_J} {c : Nat} (hc : c < 8) {w : Nat → Nat} {x : Int32}
    (hw : ∀ u, u < 8 → a6 (c * 8 + u) = nI (w u) ∧ w u ≤ 30) (h7 : ∀ u, u < 8 → -2000000 ≤ (a7 u).toInt ∧ (a7 u).toInt ≤ 2000000)
    (H : ∀ y : Int32, y.toInt = zq_lst w (fun u => (a7 u).toInt) x.toInt 8 → (y ≤ a8 c → J7 (nI (c + 1)) be a1 a2 a3 a4 a5 a6 a7 a8 a9) ∧ (¬ y ≤ a8 c → J7 (nI (c + 1)) (be ||| ((1 : Int32) <<< (nI c &&& 31))) a1 a2 a3 a4 a5 a6 a7 (upd a8 c y) a9)) :
    ∃ n, wX_walkBack_22 post J7 (nI c) l t be a1 a2 a3 a4 a5 a6 a7 a8 a9 n x 0 := by
  refine pk_loop (fun n i s => wX_walkBack_22 post J7 (nI c) l t be a1 a2 a3 a4 a5 a6 a7 a8 a9 n s (nI i)) (fun i s => s.toInt = zq_lst w (fun u => (a7 u).toInt) x.toInt i) 8 0 x (by omega) rfl ?_ ?_
  · intro n s h
    refine pk_le 8 8 (fun _ => ⟨pk_in c 8 hc, ?_⟩) (fun z => absurd z (by omega))
    rw [nI_clamp (show c < 2 ^ 31 by omega)]
    obtain ⟨H1, H2⟩ := H s h
    exact ⟨fun z => nm_r (nI_1 c) (H1 z), fun z => ⟨pk_in c 8 hc, nm_e (nm_e (nm_r (nI_1 c) (H2 z)))⟩⟩
  · intro n i s hi h hk
    obtain ⟨hwi, hwb⟩ := hw i hi
    obtain ⟨hl, hu⟩ := h7 i hi
    have hs : ∀ s' : Int32, s'.toInt = (if 0 < w i ∧ s.toInt < (a7 i).toInt - w i then (a7 i).toInt - w i else s.toInt) → wX_walkBack_22 post J7 (nI c) l t be a1 a2 a3 a4 a5 a6 a7 a8 a9 n s' (nI (i + 1)) := by
      intro s' e
      refine hk s' ?_
      rw [e, h]
      rfl
    refine pk_le 8 i (fun z => absurd z (by omega)) (fun _ => ?_)
    rw [zq_cell, nI_clamp (show c * 8 + i < 2 ^ 31 by omega), nI_clamp (show i < 2 ^ 31 by omega)]
    refine ⟨pk_in (c * 8 + i) 64 (by omega), nm_r hwi ?_⟩
    refine pk_le (w i) 0 (fun z => nm_r (nI_1 i) (hs s (by rw [if_neg (fun y => absurd y.1 (by omega))]))) (fun z => ⟨pk_in i 8 hi, ?_⟩)
    have ea : (a7 i - nI (w i)).toInt = (a7 i).toInt - w i := zq_sub _ _ rfl (nI_toInt (by omega)) (by omega) (by omega)
    refine zq_le _ _ ea rfl (fun y => nm_r (nI_1 i) (hs s (by rw [if_neg (fun q => absurd q.2 (by omega))]))) (fun y => ⟨pk_in i 8 hi, nm_e (nm_r (nI_1 i) (hs _ (by rw [if_pos ⟨z, y⟩, ea])))⟩)
/-- what walkBack makes of the times at stop j -/
def zq_L (w : Nat → Nat → Nat) (A : Nat → Int32) (j : Nat) : Int := zq_lst (fun u => w j u) (fun u => (A u).toInt) (A j).toInt 8
theorem zq_walkBack {post : St2 → Prop} {w : Nat → Nat → Nat}
    (hw : ∀ u c, u < 8 → c < 8 → a6 (u * 8 + c) = nI (w u c) ∧ w u c ≤ 30) (h7 : ∀ u, u < 8 → -2000000 ≤ (a7 u).toInt ∧ (a7 u).toInt ≤ 2000000)
    (H : ∀ (be' : Int32) (a8' : Nat → Int32), (∀ j, j < 8 → (a8' j).toInt = zq_mx (zq_L w a7 j) (a8 j).toInt) → (∀ j, j < 8 → (a8 j).toInt < zq_L w a7 j → zq_bit be' j) → post (l, t, be', a1, a2, a3, a4, a5, a6, a7, a8', a9)) :
    wpX_walkBack post (l, t, be, a1, a2, a3, a4, a5, a6, a7, a8, a9) := by
  refine pk_loop (σ := Int32 × (Nat → Int32)) (fun n i s => wX_walkBack_7 post l t n (nI i) s.1 a1 a2 a3 a4 a5 a6 a7 s.2 a9)
    (fun i s => (∀ j, j < i → (s.2 j).toInt = zq_mx (zq_L w a7 j) (a8 j).toInt) ∧ (∀ j, j < i → (a8 j).toInt < zq_L w a7 j → zq_bit s.1 j) ∧ (∀ j, i ≤ j → s.2 j = a8 j)) 8 0 ((0 : Int32), a8) (by omega)
    ⟨fun j hj => absurd hj (by omega), fun j hj => absurd hj (by omega), fun j _ => rfl⟩ ?_ ?_
  · intro n s h
    exact pk_le 8 8 (fun _ => H s.1 s.2 h.1 h.2.1) (fun z => absurd z (by omega))
  · intro n i s hi h hk
    obtain ⟨h1, h2, h3⟩ := h
    refine pk_le 8 i (fun z => absurd z (by omega)) (fun _ => ⟨pk_in i 8 hi, ?_⟩)
    rw [nI_clamp (show i < 2 ^ 31 by omega)]
    refine nm_e (zq_v22 hi (w := fun u => w i u) (fun u hu => hw i u hi hu) h7 ?_)
    intro y hy
    have hy' : y.toInt = zq_L w a7 i := hy
    have e8 : s.2 i = a8 i := h3 i (Nat.le_refl i)
    refine zq_le _ _ hy' rfl (fun z => hk (s.1, s.2) ⟨?_, ?_, fun j hj => h3 j (by omega)⟩) (fun z => hk (_, upd s.2 i y) ⟨?_, ?_, ?_⟩)
    · intro j hj
      by_cases e : j = i
      · rw [e, e8]
        unfold zq_mx
        rw [e8] at z
        rw [if_neg (by omega)]
      · exact h1 j (by omega)
    · intro j hj hb
      by_cases e : j = i
      · rw [e8] at z
        rw [e] at hb
        omega
      · exact h2 j (by omega) hb
    · intro j hj
      show (upd s.2 i y j).toInt = _
      by_cases e : j = i
      · rw [e, pk_us, hy']
        unfold zq_mx
        rw [e8] at z
        rw [if_pos z]
      · rw [pk_un e]
        exact h1 j (by omega)
    · intro j hj hb
      show zq_bit (s.1 ||| ((1 : Int32) <<< (nI i &&& 31))) j
      by_cases e : j = i
      · rw [e]
        exact zq_bit_set hi
      · exact zq_bit_or (by omega) (h2 j (by omega) hb)
    · intro j hj
      show upd s.2 i y j = a8 j
      rw [pk_un (by omega)]
      exact h3 j (by omega)
end
theorem zq_V_a {a b f u : Nat} (hab : a ≠ b) (h : u ≠ b) : zq_W a b f a u = 0 := if_neg (by omega)
theorem zq_V_b {a b f u : Nat} (hab : a ≠ b) (h : u ≠ a) : zq_W a b f b u = 0 := if_neg (by omega)
theorem zq_V_j {a b f u j : Nat} (ha : j ≠ a) (hb : j ≠ b) : zq_W a b f j u = 0 := if_neg (by omega)
theorem zq_L_a {a b f : Nat} {x y c : Int} {A : Nat → Int32} (hab : a ≠ b) (hb : b < 8) (h : zq_P a b x y c A) : zq_L (zq_W a b f) A a = zq_bw f x y := by
  unfold zq_L
  rw [zq_lst_1 (p := b) 8 hb (fun u _ hn => zq_V_a hab hn), zq_W_ab, h.1, h.2.1]
  rfl
theorem zq_L_b {a b f : Nat} {x y c : Int} {A : Nat → Int32} (hab : a ≠ b) (ha : a < 8) (h : zq_P a b x y c A) : zq_L (zq_W a b f) A b = zq_bw f y x := by
  unfold zq_L
  rw [zq_lst_1 (p := a) 8 ha (fun u _ hn => zq_V_b hab hn), zq_W_ba, h.1, h.2.1]
  rfl
theorem zq_L_j {a b f j : Nat} {x y c : Int} {A : Nat → Int32} (hj : j < 8) (ha : j ≠ a) (hb : j ≠ b) (h : zq_P a b x y c A) : zq_L (zq_W a b f) A j = c := by
  unfold zq_L
  rw [zq_lst_0 8 (fun u _ => zq_V_j ha hb), h.2.2 j hj ha hb]
/-- walkBack over the law's timetable -/
theorem zq_wbackT {post : St2 → Prop} {a b m f s : Nat} {l t be : Int32} {a1 a2 a3 a4 a5 a6 a7 a8 a9 : Nat → Int32} {x y X Y : Int} (hT : zq_T a b m f s a1 a2 a3 a4 a5 a6)
    (h7 : zq_P a b x y (-1000000) a7) (h8 : zq_P a b X Y (-1000000) a8) (hx : -2000000 ≤ x ∧ x ≤ 2000000) (hy : -2000000 ≤ y ∧ y ≤ 2000000)
    (H : ∀ (be' : Int32) (a8' : Nat → Int32), zq_P a b (zq_mx (zq_bw f x y) X) (zq_mx (zq_bw f y x) Y) (-1000000) a8' → (X < zq_bw f x y → zq_bit be' a) → (Y < zq_bw f y x → zq_bit be' b) → post (l, t, be', a1, a2, a3, a4, a5, a6, a7, a8', a9)) :
    wpX_walkBack post (l, t, be, a1, a2, a3, a4, a5, a6, a7, a8, a9) := by
  obtain ⟨⟨ha, hb, hab, hm1, hm, hf, hs⟩, t1, t2a, t2b, t3a, t3b, t4, t5, t6⟩ := hT
  refine zq_walkBack (w := zq_W a b f) (fun u c hu hc => ⟨t6 u c hu hc, zq_W_le hf⟩) (zq_P_bd h7 hx hy (by omega)) ?_
  intro be' a8' e1 e2
  refine H be' a8' ⟨?_, ?_, ?_⟩ ?_ ?_
  · rw [e1 a ha, zq_L_a hab hb h7, h8.1]
  · rw [e1 b hb, zq_L_b hab ha h7, h8.2.1]
  · intro j hj na nb
    rw [e1 j hj, zq_L_j hj na nb h7, h8.2.2 j hj na nb]
    rfl
  · intro z
    exact e2 a ha (by rw [zq_L_a hab hb h7, h8.1]; exact z)
  · intro z
    exact e2 b hb (by rw [zq_L_b hab ha h7, h8.2.1]; exact z)
section
variable {a b m f s : Nat} {l t be : Int32} {a1 a2 a3 a4 a5 a6 a7 a8 a9 : Nat → Int32}
theorem zq_meet {post : Int32 → Prop} {i o : Nat} {x3 : Int32} (hs : s ≤ 500) (h4 : a4 0 = nI 0) (h5 : a5 0 = nI s) (hi : i < 30) (h3 : a3 i = nI o) (ho : o ≤ 30)
    (H : ∀ r : Int32, r.toInt = (if (s : Int) + o ≤ x3.toInt then (s : Int) else -1000000) → post r) :
    wpX_meetTrip post (l, nI 1, be, a1, a2, a3, a4, a5, a6, a7, a8, a9) 0 (nI i) x3 := by
  have e1 : ∀ r : Int32, r.toInt = (if (s : Int) + o ≤ x3.toInt then (s : Int) else -1000000) → wX_meetTrip_7 post 0 (nI i) x3 l (nI 1) be a1 a2 a3 a4 a5 a6 a7 a8 a9 1 r (nI 1) :=
    fun r hr => pk_le 1 1 (fun _ => H r hr) (fun z => absurd z (by omega))
  have key : wX_meetTrip_7 post 0 (nI i) x3 l (nI 1) be a1 a2 a3 a4 a5 a6 a7 a8 a9 2 (-1000000) (nI 0) := by
    refine pk_le 1 0 (fun z => absurd z (by omega)) (fun _ => ?_)
    rw [zq_l0, nI_clamp (show i < 2 ^ 31 by omega), nI_clamp (show 0 < 2 ^ 31 by omega), h4, h5, h3]
    refine ⟨pk_in 0 12 (by omega), br_t rfl ⟨pk_in 0 12 (by omega), pk_in i 30 hi, ?_⟩⟩
    have ea : (nI s + nI o).toInt = (s : Int) + o := zq_add _ _ (nI_toInt (by omega)) (nI_toInt (by omega)) (by omega) (by omega)
    refine zq_lt _ _ rfl ea (fun z => nm_r (nI_1 0) (e1 _ (by rw [if_neg (by omega)]; exact zq_nfar))) (fun z => ⟨pk_in 0 12 (by omega), ?_⟩)
    refine zq_le _ _ (nI_toInt (n := s) (by omega)) zq_nfar (fun y => absurd y (by omega)) (fun y => ⟨pk_in 0 12 (by omega), nm_e (nm_r (nI_1 0) (e1 _ (by rw [if_pos z]; exact nI_toInt (by omega))))⟩)
  exact Exists.intro 2 key
theorem zq_r71 {post : St2 → Prop} {J5 : zq_J} {i o c : Nat} {x2 x5 : Int32} (hs : s ≤ 500) (h4 : a4 0 = nI 0) (h5 : a5 0 = nI s) (hi : i < 30) (h3 : a3 i = nI o) (ho : o ≤ 30) (hc : c < 8) (hx2 : -1000000 ≤ x2.toInt)
    (H : ∀ r : Int32, (r = x2 ∨ (r.toInt = s ∧ (s : Int) + o ≤ (a9 c).toInt)) → (zq_bit be c → x2 = -1000000 → (s : Int) + o ≤ (a9 c).toInt → r.toInt = s) → J5 r (nI i + (-1)) a1 a2 a3 a4 a5 a6 a7 a8 a9) :
    wX_rideLineBack_71 post J5 0 x2 (nI i) (nI c) x5 l (nI 1) be a1 a2 a3 a4 a5 a6 a7 a8 a9 := by
  have h114 : wX_rideLineBack_114 post J5 0 x2 (nI i) (nI c) l (nI 1) be a1 a2 a3 a4 a5 a6 a7 a8 a9 := by
    unfold wX_rideLineBack_114
    rw [nI_clamp (show c < 2 ^ 31 by omega)]
    refine ⟨pk_in c 8 hc, zq_meet hs h4 h5 hi h3 ho ?_⟩
    intro r hr
    refine zq_le _ _ hr rfl (fun z => nm_e (H x2 (Or.inl rfl) (fun _ e g => ?_))) (fun z => nm_e (H r ?_ ?_))
    · rw [if_pos g, e, zq_nfar] at z
      omega
    · by_cases g : (s : Int) + o ≤ (a9 c).toInt
      · rw [if_pos g] at hr
        exact Or.inr ⟨hr, g⟩
      · rw [if_neg g] at z
        omega
    · intro _ _ g
      rw [if_pos g] at hr
      exact hr
  unfold wX_rideLineBack_71
  refine br_c (fun hm => ?_) (fun hm => ?_)
  · unfold wX_rideLineBack_89
    refine br_f (by decide) (br_c (fun _ => h114) (fun hn => ⟨pk_in c 8 hc, br_c (fun _ => nm_e (H x2 (Or.inl rfl) (fun _ e => absurd e hn))) (fun _ => h114)⟩))
  · unfold wX_rideLineBack_89
    exact br_t rfl (nm_e (H x2 (Or.inl rfl) (fun g => absurd g hm)))
theorem zq_rideBack {post : St2 → Prop} (hT : zq_T a b m f s a1 a2 a3 a4 a5 a6) (h7 : zq_P a b (-1000000) (-1000000) (-1000000) a7)
    (H : ∀ (a7' : Nat → Int32) (x : Int), zq_P a b x (-1000000) (-1000000) a7' → (x = -1000000 ∨ (x = (s : Int) ∧ (s : Int) + m ≤ (a9 b).toInt)) → (zq_bit be b → (s : Int) + m ≤ (a9 b).toInt → x = (s : Int)) → post (l, nI 1, be, a1, a2, a3, a4, a5, a6, a7', a8, a9)) :
    wpX_rideLineBack post (l, nI 1, be, a1, a2, a3, a4, a5, a6, a7, a8, a9) 0 := by
  obtain ⟨⟨ha, hb, hab, hm1, hm, hf, hs⟩, t1, t2a, t2b, t3a, t3b, t4, t5, t6⟩ := hT
  have ex : ∀ (r : Int32) (a7' : Nat → Int32), post (l, nI 1, be, a1, a2, a3, a4, a5, a6, a7', a8, a9) → wX_rideLineBack_12 post 0 l (nI 1) be 1 r (nI 0 + (-1)) a1 a2 a3 a4 a5 a6 a7' a8 a9 := by
    intro r a7' h
    exact br_t (by decide) h
  have it2 : ∀ r : Int32, (r.toInt = -1000000 ∨ (r.toInt = s ∧ (s : Int) + m ≤ (a9 b).toInt)) → (zq_bit be b → (s : Int) + m ≤ (a9 b).toInt → r.toInt = s) → wX_rideLineBack_12 post 0 l (nI 1) be 2 r (nI 0) a1 a2 a3 a4 a5 a6 a7 a8 a9 := by
    intro r h1 h2
    refine pk_lt 0 0 (fun z => absurd z (by omega)) (fun _ => ?_)
    rw [zq_l0, nI_clamp (show 0 < 2 ^ 31 by omega), t2a, t3a]
    refine ⟨pk_in 0 30 (by omega), nm_e ⟨pk_in 0 30 (by omega), nm_e ?_⟩⟩
    have em : (r + nI 0).toInt = r.toInt + (0 : Nat) := zq_add _ _ rfl (nI_toInt (by omega)) (by omega) (by omega)
    refine zq_le _ _ rfl zq_nfar (fun z => ?_) (fun z => ⟨pk_in a 8 ha, ?_⟩)
    · exact zq_r71 hs t4 t5 (by omega) t3a (by omega) ha (by omega) (fun r' _ _ => ex r' a7 (H a7 (-1000000) h7 (Or.inl rfl) (fun g1 g2 => by have := h2 g1 g2; omega)))
    · rw [nI_clamp (show a < 2 ^ 31 by omega)]
      refine zq_le _ _ em h7.1 (fun y => by omega) (fun y => ⟨pk_in a 8 ha, nm_e ?_⟩)
      refine zq_r71 hs t4 t5 (by omega) t3a (by omega) ha (by omega) (fun r' _ _ => ex r' _ (H (upd a7 a (r + nI 0)) (s : Int) (zq_P_ua hab h7 (by omega)) (Or.inr ⟨rfl, by omega⟩) (fun _ _ => rfl)))
  have it1 : wX_rideLineBack_12 post 0 l (nI 1) be 3 (-1000000) (nI 1) a1 a2 a3 a4 a5 a6 a7 a8 a9 := by
    refine pk_lt 1 0 (fun z => absurd z (by omega)) (fun _ => ?_)
    rw [zq_l0, nI_clamp (show 1 < 2 ^ 31 by omega), t2b, t3b]
    refine ⟨pk_in 1 30 (by omega), nm_e ⟨pk_in 1 30 (by omega), nm_e ?_⟩⟩
    refine zq_le _ _ zq_nfar zq_nfar (fun _ => ?_) (fun z => absurd z (by omega))
    refine zq_r71 hs t4 t5 (by omega) t3b (by omega) hb (by rw [zq_nfar]; omega) (fun r h1 h2 => ?_)
    rw [show nI 1 + (-1) = nI 0 from pk_m1 0]
    refine it2 r ?_ ?_
    · rcases h1 with e | ⟨e, g⟩
      · exact Or.inl (by rw [e, zq_nfar])
      · exact Or.inr ⟨e, by omega⟩
    · intro g1 g2
      exact h2 g1 rfl (by omega)
  unfold wpX_rideLineBack
  refine And.intro (pk_in 0 5 (by omega)) ?_
  rw [zq_cl0, t1]
  exact nm_r (show nI 2 - 1 = nI 1 from nI_pred 1) (Exists.intro 3 it1)
end
end
section
/-! part 6: planBack, latest -/
abbrev zq_J4 : Type := Int32 → Int32 → Int32 → Int32 → (Nat → Int32) → (Nat → Int32) → (Nat → Int32) → (Nat → Int32) → (Nat → Int32) → (Nat → Int32) → (Nat → Int32) → (Nat → Int32) → (Nat → Int32) → Prop
theorem zq_mx_s (x y : Int) : (y < x ∧ zq_mx x y = x) ∨ (x ≤ y ∧ zq_mx x y = y) := by
  unfold zq_mx
  split <;> omega
theorem zq_bw_s (f : Nat) (x y : Int) : (0 < f ∧ x < y - f ∧ zq_bw f x y = y - f) ∨ (¬ (0 < f ∧ x < y - f) ∧ zq_bw f x y = x) := by
  unfold zq_bw
  split <;> omega
/-- the latest start on foot alone -/
def zq_bk (f q : Nat) : Int := if 0 < f then (q : Int) - f else -1000000
/-- the latest start: by the ride or on foot -/
def zq_lat (m f s q : Nat) : Int := if s + m ≤ q ∧ zq_bk f q < (s : Int) then (s : Int) else zq_bk f q
theorem zq_bk_s (f q : Nat) : (0 < f ∧ zq_bk f q = (q : Int) - f) ∨ (f = 0 ∧ zq_bk f q = -1000000) := by
  unfold zq_bk
  split <;> omega
theorem zq_lat_s (m f s q : Nat) : (s + m ≤ q ∧ zq_bk f q < (s : Int) ∧ zq_lat m f s q = (s : Int)) ∨ (¬ (s + m ≤ q ∧ zq_bk f q < (s : Int)) ∧ zq_lat m f s q = zq_bk f q) := by
  unfold zq_lat
  split <;> omega
/-- what latest answers at a time v -/
def zq_la (v : Int) : Int := if 0 ≤ v then v else -5
section
variable {a b m f s q : Nat} {l t be : Int32} {a1 a2 a3 a4 a5 a6 a7 a8 a9 : Nat → Int32}
theorem zq_st_lt {k : Nat} {g : Prop} {X Y x : Int} (hb : 1 ≤ m ∧ m ≤ 30 ∧ f ≤ 30 ∧ s ≤ 500 ∧ q ≤ 1000) (h : Y = q ∧ ((k = 0 ∧ g ∧ X = zq_bk f q) ∨ (0 < k ∧ X = zq_lat m f s q)))
    (h1 : x = -1000000 ∨ (x = (s : Int) ∧ (s : Int) + m ≤ Y)) (h2 : g → (s : Int) + m ≤ Y → x = (s : Int)) : zq_mx (zq_bw f x (-1000000)) X = zq_lat m f s q ∧ zq_mx (zq_bw f (-1000000) x) Y = q := by
  have e1 := zq_bk_s f q
  have e2 := zq_lat_s m f s q
  have e3 := zq_mx_s (zq_bw f x (-1000000)) X
  have e4 := zq_mx_s (zq_bw f (-1000000) x) Y
  have e5 := zq_bw_s f x (-1000000)
  have e6 := zq_bw_s f (-1000000) x
  obtain ⟨rfl, h | h⟩ := h
  · have h2' := h2 h.2.1
    omega
  · omega
theorem zq_bg' (hb : f ≤ 30 ∧ q ≤ 1000) : zq_bw f q (-1000000) = q ∧ zq_mx (zq_bw f q (-1000000)) (-1000000) = q ∧ zq_mx (zq_bw f (-1000000) q) (-1000000) = zq_bk f q := by
  have e1 := zq_bk_s f q
  have e3 := zq_mx_s (zq_bw f (-1000000) q) (-1000000)
  have e4 := zq_mx_s (zq_bw f q (-1000000)) (-1000000)
  have e5 := zq_bw_s f (-1000000) q
  have e6 := zq_bw_s f q (-1000000)
  omega
theorem zq_p98 {post : St2 → Prop} {J : zq_J4} {k : Nat} {X Y : Int} (hT : zq_T a b m f s a1 a2 a3 a4 a5 a6) (h7 : zq_P a b (-1000000) (-1000000) (-1000000) a7) (h8 : zq_P a b X Y (-1000000) a8) (h9 : (a9 b).toInt = Y)
    (H : ∀ (be' : Int32) (a7' a8' : Nat → Int32) (x : Int), (x = -1000000 ∨ (x = (s : Int) ∧ (s : Int) + m ≤ Y)) → (zq_bit be b → (s : Int) + m ≤ Y → x = (s : Int)) → zq_P a b (zq_mx (zq_bw f x (-1000000)) X) (zq_mx (zq_bw f (-1000000) x) Y) (-1000000) a8' → J (nI (k + 1)) (nI 1) (nI 1) be' a1 a2 a3 a4 a5 a6 a7' a8' a9) :
    ∃ n, wX_planBack_98 post J (nI k) n 0 (nI 1) (nI 1) be a1 a2 a3 a4 a5 a6 a7 a8 a9 := by
  have hT' := hT
  obtain ⟨⟨ha, hb, hab, hm1, hm, hf, hs⟩, _⟩ := hT'
  refine Exists.intro 2 ?_
  refine pk_le 1 0 (fun z => absurd z (by omega)) (fun _ => zq_rideBack hT h7 ?_)
  intro a7' x p1 p2 p3
  rw [h9] at p2 p3
  refine nm_r (nI_1 0) ?_
  refine pk_le 1 1 (fun _ => zq_wbackT hT p1 h8 (by omega) (by omega) ?_) (fun z => absurd z (by omega))
  intro be' a8' e8 _ _
  exact nm_r (nI_1 k) (H be' a7' a8' x p2 p3 e8)
theorem zq_p59 {post : St2 → Prop} {J : zq_J4} {k : Nat} {X Y : Int} (hT : zq_T a b m f s a1 a2 a3 a4 a5 a6) (h8 : zq_P a b X Y (-1000000) a8)
    (H : ∀ (be' : Int32) (a7' a8' a9' : Nat → Int32) (x : Int), (x = -1000000 ∨ (x = (s : Int) ∧ (s : Int) + m ≤ Y)) → (zq_bit be b → (s : Int) + m ≤ Y → x = (s : Int)) → zq_P a b (zq_mx (zq_bw f x (-1000000)) X) (zq_mx (zq_bw f (-1000000) x) Y) (-1000000) a8' → J (nI (k + 1)) (nI 1) (nI 1) be' a1 a2 a3 a4 a5 a6 a7' a8' a9') :
    ∃ n, wX_planBack_59 post J (nI k) (nI 1) (nI 1) be n 0 a1 a2 a3 a4 a5 a6 a7 a8 a9 := by
  have hT' := hT
  obtain ⟨⟨ha, hb, hab, hm1, hm, hf, hs⟩, _⟩ := hT'
  refine pk_loop (σ := (Nat → Int32) × (Nat → Int32)) (fun n i z => wX_planBack_59 post J (nI k) (nI 1) (nI 1) be n (nI i) a1 a2 a3 a4 a5 a6 z.1 a8 z.2) (fun i z => (∀ j, j < i → z.1 j = -1000000) ∧ (∀ j, j < i → z.2 j = a8 j)) 8 0 (a7, a9) (by omega)
    ⟨fun j hj => absurd hj (by omega), fun j hj => absurd hj (by omega)⟩ ?_ ?_
  · intro n z h
    refine pk_le 8 8 (fun _ => ?_) (fun z => absurd z (by omega))
    exact zq_p98 hT (zq_P_all ha hb zq_nfar h.1) h8 (by rw [h.2 b hb]; exact h8.2.1) (fun be' a7' a8' x q1 q2 q3 => H be' a7' a8' z.2 x q1 q2 q3)
  · intro n i z hi h hk
    refine pk_le 8 i (fun z => absurd z (by omega)) (fun _ => ?_)
    rw [nI_clamp (show i < 2 ^ 31 by omega)]
    exact ⟨pk_in i 8 hi, pk_in i 8 hi, nm_e ⟨pk_in i 8 hi, nm_e (nm_r (nI_1 i) (hk (upd z.1 i (-1000000), upd z.2 i (a8 i)) ⟨zq_fillU h.1, zq_copyU h.2⟩))⟩⟩
theorem zq_p43 {post : St2 → Prop} (hT : zq_T a b m f s a1 a2 a3 a4 a5 a6) (hq : q ≤ 1000)
    (H : ∀ (be' : Int32) (a7' a8' a9' : Nat → Int32), (a8' a).toInt = zq_lat m f s q → post (nI 1, nI 1, be', a1, a2, a3, a4, a5, a6, a7', a8', a9'))
    (h8 : zq_P a b (zq_bk f q) q (-1000000) a8) (hbe : zq_bit be b) :
    ∃ n, wX_planBack_43 post n 0 (nI 1) (nI 1) be a1 a2 a3 a4 a5 a6 a7 a8 a9 := by
  have hT' := hT
  obtain ⟨⟨ha, hb, hab, hm1, hm, hf, hs⟩, _⟩ := hT'
  refine pk_loop (σ := Int32 × (Nat → Int32) × (Nat → Int32) × (Nat → Int32)) (fun n i z => wX_planBack_43 post n (nI i) (nI 1) (nI 1) z.1 a1 a2 a3 a4 a5 a6 z.2.1 z.2.2.1 z.2.2.2)
    (fun i z => ∃ X Y : Int, zq_P a b X Y (-1000000) z.2.2.1 ∧ (Y = q ∧ ((i = 0 ∧ zq_bit z.1 b ∧ X = zq_bk f q) ∨ (0 < i ∧ X = zq_lat m f s q)))) 12 0 (be, a7, a8, a9) (by omega)
    ⟨zq_bk f q, q, h8, rfl, Or.inl ⟨rfl, hbe, rfl⟩⟩ ?_ ?_
  · intro n z h
    obtain ⟨X, Y, g8, gI⟩ := h
    refine pk_le 12 12 (fun _ => H z.1 z.2.1 z.2.2.1 z.2.2.2 ?_) (fun z => absurd z (by omega))
    rcases gI.2 with g | g
    · omega
    · rw [g8.1, g.2]
  · intro n i z hi h hk
    obtain ⟨X, Y, g8, gI⟩ := h
    refine pk_le 12 i (fun z => absurd z (by omega)) (fun _ => br_c (fun e => ?_) (fun _ => zq_p59 hT g8 ?_))
    · rcases gI.2 with g | g
      · exact absurd e (zq_be0 hb g.2.1)
      · exact H z.1 z.2.1 z.2.2.1 z.2.2.2 (by rw [g8.1, g.2])
    · intro be' a7' a8' a9' x q1 q2 q3
      have st := zq_st_lt (by omega) gI q1 q2
      exact hk (be', a7', a8', a9') ⟨_, _, q3, st.2, Or.inr ⟨by omega, st.1⟩⟩
theorem zq_planBack {post : St2 → Prop} (hT : zq_T a b m f s a1 a2 a3 a4 a5 a6) (hq : q ≤ 1000)
    (H : ∀ (be' : Int32) (a7' a8' a9' : Nat → Int32), (a8' a).toInt = zq_lat m f s q → post (nI 1, nI 1, be', a1, a2, a3, a4, a5, a6, a7', a8', a9')) :
    wpX_planBack post (nI 1, nI 1, be, a1, a2, a3, a4, a5, a6, a7, a8, a9) (nI b) (nI q) := by
  have hT' := hT
  obtain ⟨⟨ha, hb, hab, hm1, hm, hf, hs⟩, _⟩ := hT'
  have eg := zq_bg' (f := f) (q := q) ⟨hf, hq⟩
  refine pk_loop (σ := (Nat → Int32) × (Nat → Int32)) (fun n i z => wX_planBack_2 post (nI b) (nI q) (nI 1) (nI 1) be n (nI i) a1 a2 a3 a4 a5 a6 z.1 z.2 a9) (fun i z => (∀ j, j < i → z.1 j = -1000000) ∧ (∀ j, j < i → z.2 j = -1000000)) 8 0 (a7, a8) (by omega)
    ⟨fun j hj => absurd hj (by omega), fun j hj => absurd hj (by omega)⟩ ?_ ?_
  · intro n z h
    refine pk_le 8 8 (fun _ => ⟨pk_in b 8 hb, ?_⟩) (fun z => absurd z (by omega))
    rw [nI_clamp (show b < 2 ^ 31 by omega)]
    refine nm_e (zq_wbackT hT (zq_P_ub hab (zq_P_all ha hb zq_nfar h.1) (nI_toInt (n := q) (by omega))) (zq_P_all ha hb zq_nfar h.2) (by omega) (by omega) ?_)
    intro be' a8' e1 e2 e3
    rw [eg.2.1, eg.2.2] at e1
    exact zq_p43 hT hq H e1 (e3 (by rw [eg.1]; omega))
  · intro n i z hi h hk
    refine pk_le 8 i (fun z => absurd z (by omega)) (fun _ => ?_)
    rw [nI_clamp (show i < 2 ^ 31 by omega)]
    exact ⟨pk_in i 8 hi, nm_e ⟨pk_in i 8 hi, nm_e (nm_r (nI_1 i) (hk (upd z.1 i (-1000000), upd z.2 i (-1000000)) ⟨zq_fillU h.1, zq_fillU h.2⟩))⟩⟩
theorem zq_latest {post : Int32 → St2 → Prop} (hT : zq_T a b m f s a1 a2 a3 a4 a5 a6) (hq : q ≤ 1000)
    (H : ∀ (r be' : Int32) (a7' a8' a9' : Nat → Int32), r.toInt = zq_la (zq_lat m f s q) → post r (nI 1, nI 1, be', a1, a2, a3, a4, a5, a6, a7', a8', a9')) :
    wpX_latest post (nI 1, nI 1, be, a1, a2, a3, a4, a5, a6, a7, a8, a9) (nI a) (nI b) (nI q) := by
  have hT' := hT
  obtain ⟨⟨ha, hb, hab, hm1, hm, hf, hs⟩, _⟩ := hT'
  unfold wpX_latest
  refine zq_refusal ha hb hq (br_t rfl (zq_planBack hT hq ?_))
  intro be' a7' a8' a9' e
  have hl : zq_lat m f s q ≤ 1000 := by
    have e1 := zq_bk_s f q
    have e2 := zq_lat_s m f s q
    omega
  refine And.intro (pk_in a 8 ha) ?_
  rw [nI_clamp (show a < 2 ^ 31 by omega)]
  refine zq_le _ _ zq_z0 e (fun z => ⟨pk_in a 8 ha, ?_⟩) (fun z => H _ be' a7' a8' a9' ?_)
  · refine zq_le _ _ e (show (1000 : Int32).toInt = 1000 from by decide) (fun y => ⟨pk_in a 8 ha, H _ be' a7' a8' a9' ?_⟩) (fun y => absurd y (by omega))
    unfold zq_la
    rw [if_pos z, e]
  · unfold zq_la
    rw [if_neg (by omega)]
    exact zq_n5
end
end
section
/-! part 7: the law behind the timetable, and the timetable -/
theorem zq_an_s (v : Int) : (v < 1000000 ∧ zq_an v = v) ∨ (1000000 ≤ v ∧ zq_an v = -5) := by
  unfold zq_an
  split <;> omega
theorem zq_la_s (v : Int) : (0 ≤ v ∧ zq_la v = v) ∨ (v < 0 ∧ zq_la v = -5) := by
  unfold zq_la
  split <;> omega
section
variable {a b m f s q mc ms kc ks : Nat} {l t be : Int32} {a1 a2 a3 a4 a5 a6 a7 a8 a9 : Nat → Int32} {post : Int32 → St0 → Prop}
theorem zq_l333 (hT : zq_T a b m f s a1 a2 a3 a4 a5 a6) (hq : q ≤ 1000) {x16 z0 : Int32}
    (h1 : x16.toInt ≤ z0.toInt → z0.toInt = zq_la (zq_lat m f s q)) (h2 : z0.toInt < x16.toInt → x16.toInt = zq_la (zq_lat m f s q)) (H : post 1 ()) :
    wL_lawOf_333 post mc ms (nI a) (nI b) (nI q) x16 z0 kc ks (nI 1) (nI 1) be a1 a2 a3 a4 a5 a6 a7 a8 a9 := by
  unfold wL_lawOf_333
  refine zq_latest hT hq ?_
  intro r be' a7' a8' a9' hr
  refine zq_le _ _ rfl rfl (fun z => ?_) (fun z => ?_)
  · unfold wL_lawOf_360
    exact br_t (Int32.toInt_inj.mp (by rw [hr, h1 z])) H
  · unfold wL_lawOf_360
    exact br_t (Int32.toInt_inj.mp (by rw [hr, h2 z])) H
theorem zq_l309 (hT : zq_T a b m f s a1 a2 a3 a4 a5 a6) (hq : q ≤ 1000) {z0 : Int32} (hz : (s + m ≤ q ∧ z0.toInt = s) ∨ (q < s + m ∧ z0.toInt = -5)) (H : post 1 ()) :
    wL_lawOf_309 post mc ms (nI a) (nI b) (nI f) (nI q) z0 kc ks (nI 1) (nI 1) be a1 a2 a3 a4 a5 a6 a7 a8 a9 := by
  have hT' := hT
  obtain ⟨⟨ha, hb, hab, hm1, hm, hf, hs⟩, _⟩ := hT'
  have e1 := zq_bk_s f q
  have e2 := zq_lat_s m f s q
  have e3 := zq_la_s (zq_lat m f s q)
  have e5 := zq_n5
  unfold wL_lawOf_309
  refine pk_le f 0 (fun z => ?_) (fun z => pk_lt q f (fun y => ?_) (fun y => ?_))
  · unfold wL_lawOf_331
    exact zq_l333 hT hq (by rw [e5]; omega) (by rw [e5]; omega) H
  · unfold wL_lawOf_331
    exact zq_l333 hT hq (by rw [e5]; omega) (by rw [e5]; omega) H
  · have e6 : (nI q - nI f).toInt = (q : Int) - f := pk_sub_toInt (by omega) (by omega)
    exact zq_l333 hT hq (by rw [e6]; omega) (by rw [e6]; omega) H
theorem zq_l269 (hT : zq_T a b m f s a1 a2 a3 a4 a5 a6) (hq : q ≤ 1000) {x13 z0 z1 : Int32} (h13 : x13.toInt = zq_an (zq_wk f q)) (hz : z1.toInt = z0.toInt) (H : post 1 ()) :
    wL_lawOf_269 post mc ms (nI a) (nI b) (nI m) (nI f) (nI s) (nI q) x13 z0 z1 kc ks (nI 1) (nI 1) be a1 a2 a3 a4 a5 a6 a7 a8 a9 := by
  have hT' := hT
  obtain ⟨⟨ha, hb, hab, hm1, hm, hf, hs⟩, _⟩ := hT'
  unfold wL_lawOf_269
  refine br_t (Int32.toInt_inj.mp hz) (zq_earliest_ba hT hq ?_)
  intro r be' a7' a8' a9' hr
  refine br_t (Int32.toInt_inj.mp (by rw [hr, h13])) ?_
  rw [nI_add]
  refine pk_lt q (s + m) (fun z => zq_l309 hT hq (Or.inr ⟨z, zq_n5⟩) H) (fun z => zq_l309 hT hq (Or.inl ⟨z, nI_toInt (by omega)⟩) H)
theorem zq_l201 (hT : zq_T a b m f s a1 a2 a3 a4 a5 a6) (hq : q ≤ 1000) {x13 x14 z0 : Int32} (h13 : x13.toInt = zq_an (zq_wk f q)) (hz : z0.toInt = zq_an (zq_fin m f s q))
    (h14 : (x14 = 0 ∧ ¬ (q ≤ s ∧ (s : Int) + m < zq_wk f q)) ∨ (x14 = 1 ∧ (q ≤ s ∧ (s : Int) + m < zq_wk f q))) (H : post 1 ()) :
    wL_lawOf_201 post mc ms (nI a) (nI b) (nI m) (nI f) (nI s) (nI q) x13 x14 z0 kc ks (nI 1) (nI 1) be a1 a2 a3 a4 a5 a6 a7 a8 a9 := by
  have hT' := hT
  obtain ⟨⟨ha, hb, hab, hm1, hm, hf, hs⟩, _⟩ := hT'
  have e1 := zq_wk_s f q
  have e2 := zq_fin_s m f s q
  have e3 := zq_an_s (zq_fin m f s q)
  have e4 := zq_rd_s m f s q
  unfold wL_lawOf_201
  refine zq_earliest_ab hT hq ?_
  intro r be' a7' a8' a9' hr
  refine br_t (Int32.toInt_inj.mp (by rw [hr, hz])) (zq_with hT hq ?_)
  intro r2 be2 b7 b8 b9 hr2
  refine br_t (Int32.toInt_inj.mp (by rw [hr2, h13])) (zq_rides hT hq ?_)
  intro r3 be3 c7 c8 c9 hr3
  refine zq_le _ _ zq_z0 rfl (fun z => br_c (fun y => ?_) (fun y => ?_)) (fun z => ?_)
  · refine zq_l269 hT hq h13 ?_ H
    rw [hr3, zq_z0]
    rcases h14 with g | g
    · have g2 := g.2
      omega
    · exact absurd (g.1.symm.trans y) (by decide)
  · refine zq_l269 hT hq h13 ?_ H
    rw [hr3, show (1 : Int32).toInt = 1 from by decide]
    rcases h14 with g | g
    · exact absurd g.1 y
    · have g2 := g.2
      omega
  · refine zq_l269 hT hq h13 ?_ H
    rw [hr3, zq_n5]
    omega
theorem zq_l187 (hT : zq_T a b m f s a1 a2 a3 a4 a5 a6) (hq : q ≤ 1000) {x12 x13 z0 : Int32} (h12 : (q ≤ s ∧ x12.toInt = (s : Int) + m) ∨ (s < q ∧ x12.toInt = -5)) (h13 : x13.toInt = zq_an (zq_wk f q))
    (h14 : (z0 = 0 ∧ ¬ (q ≤ s ∧ (s : Int) + m < zq_wk f q)) ∨ (z0 = 1 ∧ (q ≤ s ∧ (s : Int) + m < zq_wk f q))) (H : post 1 ()) :
    wL_lawOf_187 post mc ms (nI a) (nI b) (nI m) (nI f) (nI s) (nI q) x12 x13 z0 kc ks (nI 1) (nI 1) be a1 a2 a3 a4 a5 a6 a7 a8 a9 := by
  have hT' := hT
  obtain ⟨⟨ha, hb, hab, hm1, hm, hf, hs⟩, _⟩ := hT'
  have e1 := zq_wk_s f q
  have e2 := zq_fin_s m f s q
  have e3 := zq_an_s (zq_fin m f s q)
  unfold wL_lawOf_187
  refine br_c (fun y => zq_l201 hT hq h13 ?_ h14 H) (fun y => zq_l201 hT hq h13 ?_ h14 H)
  · rcases h14 with g | g
    · have g2 := g.2
      rw [h13]
      congr 1
      omega
    · exact absurd (g.1.symm.trans y) (by decide)
  · rcases h14 with g | g
    · exact absurd g.1 y
    · have g2 := g.2
      omega
theorem zq_l163 (hT : zq_T a b m f s a1 a2 a3 a4 a5 a6) (hq : q ≤ 1000) {x12 x13 : Int32} (h12 : (q ≤ s ∧ x12.toInt = (s : Int) + m) ∨ (s < q ∧ x12.toInt = -5)) (h13 : x13.toInt = zq_an (zq_wk f q)) (H : post 1 ()) :
    wL_lawOf_163 post mc ms (nI a) (nI b) (nI m) (nI f) (nI s) (nI q) x12 x13 kc ks (nI 1) (nI 1) be a1 a2 a3 a4 a5 a6 a7 a8 a9 := by
  have hT' := hT
  obtain ⟨⟨ha, hb, hab, hm1, hm, hf, hs⟩, _⟩ := hT'
  have e1 := zq_wk_s f q
  have e3 := zq_an_s (zq_wk f q)
  unfold wL_lawOf_163
  refine zq_lt _ _ rfl zq_z0 (fun z => ?_) (fun z => zq_lt _ _ h13 zq_z0 (fun y => ?_) (fun y => zq_le _ _ h13 rfl (fun w => ?_) (fun w => ?_)))
  · unfold wL_lawOf_186
    exact zq_l187 hT hq h12 h13 (Or.inl ⟨rfl, by omega⟩) H
  · unfold wL_lawOf_182
    exact zq_l187 hT hq h12 h13 (Or.inr ⟨rfl, by omega⟩) H
  · unfold wL_lawOf_186
    exact zq_l187 hT hq h12 h13 (Or.inl ⟨rfl, by omega⟩) H
  · unfold wL_lawOf_182
    exact zq_l187 hT hq h12 h13 (Or.inr ⟨rfl, by omega⟩) H
theorem zq_l146 (hT : zq_T a b m f s a1 a2 a3 a4 a5 a6) (hq : q ≤ 1000) {x12 : Int32} (h12 : (q ≤ s ∧ x12.toInt = (s : Int) + m) ∨ (s < q ∧ x12.toInt = -5)) (H : post 1 ()) :
    wL_lawOf_146 post mc ms (nI a) (nI b) (nI m) (nI f) (nI s) (nI q) x12 kc ks (nI 1) (nI 1) be a1 a2 a3 a4 a5 a6 a7 a8 a9 := by
  have hT' := hT
  obtain ⟨⟨ha, hb, hab, hm1, hm, hf, hs⟩, _⟩ := hT'
  have e1 := zq_wk_s f q
  have e3 := zq_an_s (zq_wk f q)
  unfold wL_lawOf_146
  refine pk_le f 0 (fun z => zq_l163 hT hq h12 ?_ H) (fun z => zq_l163 hT hq h12 ?_ H)
  · rw [zq_n5]
    omega
  · rw [nI_add, nI_toInt (by omega)]
    omega
end
section
variable {a b m f s : Nat} {l t be : Int32} {a1 a2 a3 a4 a5 a6 a7 a8 a9 : Nat → Int32} {post : Int32 → St2 → Prop}
theorem zq_cl06 : ((0 : Int32) * 6).toNatClampNeg = 0 := by decide
theorem zq_line (ha : a < 8) (H : post 0 (nI 1, t, be, upd a1 0 1, upd a2 0 (nI a), upd a3 0 0, a4, a5, a6, a7, a8, a9)) :
    wpX_line post (0, t, be, a1, a2, a3, a4, a5, a6, a7, a8, a9) (nI a) := by
  unfold wpX_line
  refine zq_badStop ha (br_t rfl (br_t (by decide) ?_))
  rw [zq_cl0, zq_cl06]
  exact ⟨pk_in 0 5 (by omega), nm_e ⟨pk_in 0 30 (by omega), nm_e ⟨pk_in 0 30 (by omega), nm_e (nm_r (show (0 : Int32) + 1 = nI 1 from rfl) H)⟩⟩⟩
theorem zq_badLine {pos : Int32 → Prop} (H : pos 0) : wpX_badLine pos (nI 1, t, be, a1, a2, a3, a4, a5, a6, a7, a8, a9) 0 :=
  br_f (by decide) (br_t (by decide) H)
theorem zq_extend (hb : b < 8) (hm : 1 ≤ m ∧ m ≤ 30) (h1 : a1 0 = nI 1) (h2 : ¬ a2 0 = nI b) (H : post 2 (nI 1, 0, be, upd a1 0 (nI 2), upd a2 1 (nI b), upd a3 1 (a3 0 + nI m), a4, a5, a6, a7, a8, a9)) :
    wpX_extend post (nI 1, 0, be, a1, a2, a3, a4, a5, a6, a7, a8, a9) 0 (nI b) (nI m) := by
  unfold wpX_extend
  refine zq_badLine (br_t rfl (zq_badStop hb (br_t rfl ?_)))
  rw [zq_cl0, h1]
  have it2 : wX_extend_31 post 0 (nI b) (nI m) (nI 1) (nI 1) 0 be a1 a2 a3 a4 a5 a6 a7 a8 a9 1 (nI 1) := by
    refine pk_le 1 1 (fun _ => pk_lt m 1 (fun z => absurd z (by omega)) (fun _ => pk_le m 30 (fun _ => ?_) (fun z => absurd z (by omega)))) (fun z => absurd z (by omega))
    refine Exists.intro 1 (br_t (by decide) ?_)
    refine pk_le 6 1 (fun z => absurd z (by omega)) (fun _ => br_t rfl ?_)
    rw [zq_l0, show nI 1 - 1 = nI 0 from nI_pred 0, nI_clamp (show 1 < 2 ^ 31 by omega), nI_clamp (show 0 < 2 ^ 31 by omega), zq_cl0, nI_1 1]
    exact ⟨pk_in 1 30 (by omega), nm_e ⟨pk_in 0 30 (by omega), pk_in 1 30 (by omega), nm_e ⟨pk_in 0 5 (by omega), nm_e H⟩⟩⟩
  have it1 : wX_extend_31 post 0 (nI b) (nI m) (nI 1) (nI 1) 0 be a1 a2 a3 a4 a5 a6 a7 a8 a9 2 (nI 0) := by
    refine pk_le 1 0 (fun z => absurd z (by omega)) (fun _ => ?_)
    rw [zq_l0, nI_clamp (show 0 < 2 ^ 31 by omega)]
    exact ⟨pk_in 0 30 (by omega), br_f h2 (nm_r (nI_1 0) it2)⟩
  exact ⟨pk_in 0 5 (by omega), nm_e (Exists.intro 2 it1)⟩
theorem zq_trip (hs : s ≤ 500) (H : post 0 (nI 1, nI 1, be, a1, a2, a3, upd a4 0 0, upd a5 0 (nI s), a6, a7, a8, a9)) :
    wpX_trip post (nI 1, 0, be, a1, a2, a3, a4, a5, a6, a7, a8, a9) 0 (nI s) := by
  unfold wpX_trip
  refine zq_badLine (br_t rfl (pk_lt s 0 (fun z => absurd z (by omega)) (fun _ => pk_le s 500 (fun _ => br_t (by decide) ?_) (fun z => absurd z (by omega)))))
  rw [zq_cl0]
  exact ⟨pk_in 0 12 (by omega), nm_e ⟨pk_in 0 12 (by omega), nm_e (nm_r (show (0 : Int32) + 1 = nI 1 from rfl) H)⟩⟩
theorem zq_foot (ha : a < 8) (hb : b < 8) (hab : a ≠ b) (hf : f ≤ 30) (H : post (a6 (b * 8 + a)) (l, t, be, a1, a2, a3, a4, a5, upd (upd a6 (b * 8 + a) (nI f)) (a * 8 + b) (nI f), a7, a8, a9)) :
    wpX_footpath post (l, t, be, a1, a2, a3, a4, a5, a6, a7, a8, a9) (nI b) (nI a) (nI f) := by
  unfold wpX_footpath
  refine zq_badStop hb (br_t rfl (zq_badStop ha (br_t rfl (pk_eq b a (fun z => absurd z.symm hab) (fun _ => pk_lt f 0 (fun z => absurd z (by omega)) (fun _ => pk_le f 30 (fun _ => ?_) (fun z => absurd z (by omega))))))))
  rw [zq_cell, zq_cell, nI_clamp (show b * 8 + a < 2 ^ 31 by omega), nI_clamp (show a * 8 + b < 2 ^ 31 by omega)]
  exact ⟨pk_in (b * 8 + a) 64 (by omega), nm_e ⟨pk_in (b * 8 + a) 64 (by omega), nm_e ⟨pk_in (a * 8 + b) 64 (by omega), nm_e H⟩⟩⟩
end
/-- the timetable that stands when the law has made it -/
theorem zq_Tok {a b m f s : Nat} (h : a < 8 ∧ b < 8 ∧ a ≠ b ∧ 1 ≤ m ∧ m ≤ 30 ∧ f ≤ 30 ∧ s ≤ 500) :
    zq_T a b m f s (upd (upd (fun _ => 0) 0 1) 0 (nI 2)) (upd (upd (fun _ => 0) 0 (nI a)) 1 (nI b)) (upd (upd (fun _ => 0) 0 0) 1 (upd (fun _ => 0) 0 0 0 + nI m)) (upd (fun _ => 0) 0 0) (upd (fun _ => 0) 0 (nI s)) (upd (upd (fun _ => 0) (b * 8 + a) (nI f)) (a * 8 + b) (nI f)) := by
  refine ⟨h, pk_us, ?_, pk_us, ?_, ?_, pk_us, pk_us, ?_⟩
  · rw [pk_un (by decide), pk_us]
  · rw [pk_un (by decide), pk_us]
    rfl
  · rw [pk_us, pk_us, Int32.zero_add]
  · intro i j hi hj
    unfold zq_W
    by_cases e : i * 8 + j = a * 8 + b
    · rw [e, pk_us, if_pos (by omega)]
    · rw [pk_un e]
      by_cases e2 : i * 8 + j = b * 8 + a
      · rw [e2, pk_us, if_pos (by omega)]
      · rw [pk_un e2, if_neg (by omega)]
        rfl
end
section
/-! part 8: the law on any five ints, and what is owed -/
theorem zq_mod7 {n e : Nat} (hn : n < 8) : (n + 1 + e % 7) % 8 < 8 ∧ n ≠ (n + 1 + e % 7) % 8 := by omega
theorem zq_lawOf {post : Int32 → St0 → Prop} {mc ms : Nat} (hc : 10 ≤ mc) (hm : 189 ≤ ms) (p0 p1 p2 p3 p4 : Int32) (H : post 1 ()) : wpL_lawOf post mc ms () p0 p1 p2 p3 p4 := by
  obtain ⟨a, ha, ea⟩ := pk_andE p0 (m := 7) 3 (by decide)
  obtain ⟨e, he, ee⟩ := pk_andE (p0 >>> ((3 : Int32) &&& 31)) (m := 255) 8 (by decide)
  obtain ⟨m, hm', em⟩ := pk_andE p1 (m := 1023) 10 (by decide)
  obtain ⟨f, hf', ef⟩ := pk_andE p4 (m := 1023) 10 (by decide)
  obtain ⟨s, hs', es⟩ := pk_andE p2 (m := 65535) 16 (by decide)
  obtain ⟨q, hq', eq⟩ := pk_andE p3 (m := 65535) 16 (by decide)
  have ha8 : a < 8 := ha
  have hB := zq_mod7 (e := e) ha8
  have hM : 1 ≤ 1 + m % 30 ∧ 1 + m % 30 ≤ 30 := by omega
  have hF : f % 31 ≤ 30 := by omega
  have hS : s % 501 ≤ 500 := by omega
  have hQ : q % 1001 ≤ 1000 := by omega
  have r7 : nI e - nI e / 7 * 7 = nI (e % 7) := pk_rem (d := 7) (by omega) (by omega) (by omega)
  have r8 : (nI a + 1 + nI (e % 7)) - (nI a + 1 + nI (e % 7)) / 8 * 8 = nI ((a + 1 + e % 7) % 8) := by
    rw [nI_1, nI_add]
    exact pk_rem (d := 8) (by omega) (by omega) (by omega)
  have r30 : 1 + (nI m - nI m / 30 * 30) = nI (1 + m % 30) := by
    rw [show nI m - nI m / 30 * 30 = nI (m % 30) from pk_rem (d := 30) (by omega) (by omega) (by omega)]
    exact nI_add 1 (m % 30)
  have r31 : nI f - nI f / 31 * 31 = nI (f % 31) := pk_rem (d := 31) (by omega) (by omega) (by omega)
  have r501 : nI s - nI s / 501 * 501 = nI (s % 501) := pk_rem (d := 501) (by omega) (by omega) (by omega)
  have r1001 : nI q - nI q / 1001 * 1001 = nI (q % 1001) := pk_rem (d := 1001) (by omega) (by omega) (by omega)
  have hT := zq_Tok (a := a) (b := (a + 1 + e % 7) % 8) (m := 1 + m % 30) (f := f % 31) (s := s % 501) ⟨ha8, hB.1, hB.2, hM.1, hM.2, hF, hS⟩
  generalize (a + 1 + e % 7) % 8 = b at *
  generalize 1 + m % 30 = m' at *
  generalize f % 31 = f' at *
  generalize s % 501 = s' at *
  generalize q % 1001 = q' at *
  unfold wpL_lawOf
  refine ⟨by omega, by omega, 9, 177, by omega, by omega, ?_⟩
  unfold wpX_init
  refine ⟨by omega, by omega, by omega, by omega, by omega, by omega, by omega, by omega, by omega, by omega, by omega, by omega, by omega, by omega, by omega, by omega, by omega, by omega, ?_⟩
  refine nm_r ea ⟨by decide, by decide, ?_⟩
  rw [ee, em, ef, es, eq, r7]
  refine nm_r r8 ⟨by decide, nm_r r30 ⟨by decide, nm_r r31 ⟨by decide, nm_r r501 ⟨by decide, nm_r r1001 ?_⟩⟩⟩⟩
  refine zq_line ha8 (br_t rfl ?_)
  refine zq_extend hB.1 hM pk_us ?_ (br_t rfl ?_)
  · rw [pk_us, nI_eq (by omega) (by omega)]
    exact hB.2
  refine zq_trip hS (br_t rfl ?_)
  refine zq_foot ha8 hB.1 hB.2 hF (br_t rfl ?_)
  refine pk_lt s' q' (fun z => zq_l146 hT hQ (Or.inr ⟨z, zq_n5⟩) H) (fun z => zq_l146 hT hQ (Or.inl ⟨z, ?_⟩) H)
  rw [nI_add, nI_toInt (by omega)]
  omega
theorem zq_cellAt {post : Int32 → Prop} {L k : Nat} {xs : Nat → Int32} (hL : L ≤ 5) (hk : k < 5) (H : ∀ r, post r) : wpL_cellAt post L xs () (nI k) :=
  pk_le L k (fun _ => H _) (fun z => ⟨pk_in k L z, H _⟩)
theorem i_vc (xs : Nat → Int32) (L : Nat) (hL : L ≤ 5) : wpL_law (fun r => r = 1) L xs := by
  unfold wpL_law
  refine zq_cellAt (k := 0) hL (by omega) (fun r1 => ?_)
  refine zq_cellAt (k := 1) hL (by omega) (fun r2 => ?_)
  refine zq_cellAt (k := 2) hL (by omega) (fun r3 => ?_)
  refine zq_cellAt (k := 3) hL (by omega) (fun r4 => ?_)
  refine zq_cellAt (k := 4) hL (by omega) (fun r5 => ?_)
  exact ⟨10, 189, by omega, by omega, zq_lawOf (by omega) (by omega) r1 r2 r3 r4 r5 rfl⟩
end
