section
/-! bits of a long -/
theorem ts_bit {w : Int64} {s : UInt64} {j : Nat} (hj : j < 64) (hs : s.toNat = j) : ((w.toUInt64 >>> s).toInt64 &&& 1) = 0 ↔ w.toBitVec.getLsbD j = false := by
  have e : (w.toUInt64 >>> s).toInt64.toBitVec = w.toBitVec >>> j := by
    apply BitVec.eq_of_toNat_eq
    show (w.toUInt64 >>> s).toNat = _
    rw [UInt64.toNat_shiftRight, hs, Nat.mod_eq_of_lt hj, BitVec.toNat_ushiftRight]
    rfl
  rw [← Int64.toBitVec_inj, Int64.toBitVec_and, e]
  show w.toBitVec >>> j &&& 1#64 = 0#64 ↔ _
  constructor
  · intro h
    have t := congrArg (fun x => x.getLsbD 0) h
    simpa using t
  · intro h
    apply BitVec.eq_of_getLsbD_eq
    intro i hi
    cases i with
    | zero => simp [h]
    | succ i => simp
theorem wb_cu : ∀ k, k < 64 → ((nI k).toInt64.toUInt64 &&& Int64.toUInt64 63) = UInt64.ofNat k := by decide +kernel
theorem s_l : ∀ n, n < 32 → ((nI n &&& 31).toBitVec.smod 32).toNat = n := by decide +kernel
def qz_b (x : Int64) (r : Nat) : Bool := x.toBitVec.getLsbD r
theorem qz_bor (x y : Int64) (r : Nat) : qz_b (x ||| y) r = (qz_b x r || qz_b y r) := by
  unfold qz_b
  rw [Int64.toBitVec_or, BitVec.getLsbD_or]
theorem qz_band (x y : Int64) (r : Nat) : qz_b (x &&& y) r = (qz_b x r && qz_b y r) := by
  unfold qz_b
  rw [Int64.toBitVec_and, BitVec.getLsbD_and]
theorem qz_bm1 : ∀ r, r < 64 → qz_b (-1) r = true := by decide +kernel
theorem qz_bnot (x : Int64) {r : Nat} (h : r < 64) : qz_b (x ^^^ (-1)) r = !qz_b x r := by
  have t := qz_bm1 r h
  unfold qz_b at t ⊢
  rw [Int64.toBitVec_xor, BitVec.getLsbD_xor, t, Bool.xor_true]
theorem qz_b0 (r : Nat) : qz_b 0 r = false := by
  show (0#64).getLsbD r = false
  exact BitVec.getLsbD_zero
theorem qz_tp : ∀ i, i < 64 → ((1 : Int64) <<< ((nI i).toInt64 &&& 63)).toBitVec = BitVec.twoPow 64 i := by decide +kernel
theorem qz_b1 {i r : Nat} (hi : i < 64) (hr : r < 64) : qz_b ((1 : Int64) <<< ((nI i).toInt64 &&& 63)) r = decide (r = i) := by
  unfold qz_b
  rw [qz_tp i hi, BitVec.getLsbD_twoPow]
  by_cases h : r = i
  · subst h; simp [hi]
  · have h' : ¬ i = r := fun z => h z.symm
    simp [h, h']
theorem qz_test {w : Int64} {r : Nat} (hr : r < 64) : ((w.toUInt64 >>> ((nI r).toInt64.toUInt64 &&& Int64.toUInt64 63)).toInt64 &&& 1) = 0 ↔ qz_b w r = false := by
  rw [wb_cu r hr]
  refine ts_bit hr ?_
  show (BitVec.ofNat 64 r).toNat = r
  rw [BitVec.toNat_ofNat, Nat.mod_eq_of_lt (by omega)]
/-! bits of an int that is not negative -/
theorem qz_shr {f v : Nat} (hf : f < 2 ^ 31) (hv : v < 32) : nI f >>> (nI v &&& 31) = nI (f / 2 ^ v) := pk_shrN hf _ v (s_l v hv)
theorem qz_bit {f v : Nat} (hf : f < 2 ^ 31) (hv : v < 32) : (nI f >>> (nI v &&& 31)) &&& 1 = nI (f / 2 ^ v % 2) := by
  rw [qz_shr hf hv]
  exact pk_andN (Nat.lt_of_le_of_lt (Nat.div_le_self _ _) (by omega)) (m := 1) 1 (by decide)
/-! a loop that computes -/
theorem qz_it {σ : Type} (W : Nat → Nat → σ → Prop) (G : Nat → σ) (e : Nat) (hx : ∀ n, W (n + 1) e (G e)) (hs : ∀ n i, i < e → W n (i + 1) (G (i + 1)) → W (n + 1) i (G i)) : ∃ n, W n 0 (G 0) :=
  pk_loop W (fun i s => s = G i) e 0 (G 0) (Nat.zero_le e) rfl (fun n s h => by rw [h]; exact hx n) (fun n i s hi h hw => by rw [h]; exact hs n i hi (hw _ rfl))
/-- the row of an event -/
def qz_rw (c e : Nat) : Nat := if e < c then e else 40 + (e - c)
theorem qz_rwL {c e : Nat} (h : e < c) : qz_rw c e = e := if_pos h
theorem qz_rwH {c j : Nat} : qz_rw c (c + j) = 40 + j := by
  unfold qz_rw
  rw [if_neg (by omega)]
  omega
theorem qz_rwI {c e e' : Nat} (hc : c ≤ 40) (h : qz_rw c e = qz_rw c e') : e = e' := by
  unfold qz_rw at h
  split at h <;> split at h <;> omega
theorem qz_rw80 {c o e : Nat} (hc : c ≤ 40) (ho : o ≤ 40) (h : e < c + o) : qz_rw c e < 80 := by
  unfold qz_rw
  split <;> omega
/-- how many events have a row ahead of row r -/
def qz_ev (c o r : Nat) : Nat := if r < 40 then min r c else c + min (r - 40) o
theorem qz_fold {σ : Type} {c o : Nat} (hc : c ≤ 40) (ho : o ≤ 40) (P : Nat → Bool) (F : Nat → σ) (W : Nat → Nat → σ → Prop)
    (hF : ∀ e, e < c + o → P e = false → F (e + 1) = F e)
    (hx : ∀ n, W (n + 1) 80 (F (c + o)))
    (hs : ∀ n r s, r < 80 → (∀ e, e < c + o → qz_rw c e = r → P e = false) → W n (r + 1) s → W (n + 1) r s)
    (ht : ∀ n e, e < c + o → qz_rw c e < 80 → P e = true → W n (qz_rw c e + 1) (F (e + 1)) → W (n + 1) (qz_rw c e) (F e)) : ∃ n, W n 0 (F 0) := by
  have e0 : F 0 = F (qz_ev c o 0) := by
    unfold qz_ev
    rw [if_pos (by omega), Nat.zero_min]
  rw [e0]
  refine qz_it W (fun r => F (qz_ev c o r)) 80 (fun n => ?_) (fun n r hr h => ?_)
  · have t : qz_ev c o 80 = c + o := by
      unfold qz_ev
      rw [if_neg (by omega)]
      omega
    show W (n + 1) 80 (F (qz_ev c o 80))
    rw [t]
    exact hx n
  · show W (n + 1) r (F (qz_ev c o r))
    have h' : W n (r + 1) (F (qz_ev c o (r + 1))) := h
    by_cases g : ∃ e, e < c + o ∧ qz_rw c e = r
    · obtain ⟨e, he, hre⟩ := g
      have k1 : qz_ev c o r = e := by
        unfold qz_ev; unfold qz_rw at hre
        split at hre <;> split <;> omega
      have k2 : qz_ev c o (r + 1) = e + 1 := by
        unfold qz_ev; unfold qz_rw at hre
        split at hre <;> split <;> omega
      rw [k2] at h'
      rw [k1]
      cases hp : P e with
      | false =>
        rw [hF e he hp] at h'
        refine hs n r _ hr (fun e' he' hr' => ?_) h'
        have : e' = e := qz_rwI hc (hr'.trans hre.symm)
        rw [this, hp]
      | true =>
        rw [← hre] at h' ⊢
        exact ht n e he (qz_rw80 hc ho he) hp h'
    · have k2 : qz_ev c o (r + 1) = qz_ev c o r := by
        have q1 : ¬ (r < 40 ∧ r < c) := fun z => g ⟨r, by omega, qz_rwL z.2⟩
        have q2 : ¬ (40 ≤ r ∧ r - 40 < o) := fun z => g ⟨c + (r - 40), by omega, by rw [qz_rwH]; omega⟩
        unfold qz_ev
        split <;> split <;> omega
      rw [k2] at h'
      exact hs n r _ hr (fun e he hr' => absurd ⟨e, he, hr'⟩ g) h'
/-! the events -/
def qz_K (e : Nat) : Nat := 5 + 16 * (e / 4) + 64 * (e % 4)
def qz_V (a b : Int32) (e : Nat) : Int32 := a * nI (e / 4) + b * nI (e % 4)
theorem qz_K256 : ∀ e, e < 16 → qz_K e < 256 := by decide +kernel
theorem qz_Kin : ∀ e, e < 16 → ∀ e', e' < 16 → qz_K e = qz_K e' → e = e' := by decide +kernel
/-- a value is small: it fits a byte and lies between the first least and the first greatest -/
def qz_sml (v : Int32) : Prop := -100 < v ∧ v < 100
theorem qz_vb {v : Int32} (h : qz_sml v) : v.toInt8.toInt32 = v := by
  have h1 := Int32.lt_iff_toInt_lt.mp h.1
  have h2 := Int32.lt_iff_toInt_lt.mp h.2
  have e1 : (-100 : Int32).toInt = -100 := by decide
  have e2 : (100 : Int32).toInt = 100 := by decide
  rw [e1] at h1
  rw [e2] at h2
  apply Int32.toInt_inj.mp
  rw [Int8.toInt_toInt32, Int32.toInt_toInt8, Int.bmod_def]
  split <;> omega
theorem qz_vs {n : Nat} (h : n < 32768) : (nI n).toInt16.toInt32 = nI n := by
  apply Int32.toInt_inj.mp
  rw [Int16.toInt_toInt32, Int32.toInt_toInt16, nI_toInt (by omega), Int.bmod_def]
  split <;> omega
end
section
/-! rows: look up, start, count the sorts, take -/
section
variable {fc fo fe : Int32} {cp op : Int64} {a1 a2 a3 a4 a5 : Nat → Int32} {a6 a7 a8 : Nat → Int64} {c o : Nat}
theorem qz_closedNo {post : Int32 → Prop} {x : Int32} (hc : c ≤ 40) (hfc : fc = nI c) (h : ∀ i, i < c → ¬ a1 i = x) (hp : post (-1)) :
    wpX_closedRow post (fc, fo, fe, cp, op, a1, a2, a3, a4, a5, a6, a7, a8) x := by
  subst hfc
  exact pk_loop (σ := Unit) (fun n i _ => wX_closedRow_2 post x (nI c) fo fe cp op a1 a2 a3 a4 a5 a6 a7 a8 n (nI i)) (fun _ _ => True) c 0 () (by omega) trivial
    (fun n _ _ => pk_le c c (fun _ => hp) (fun z => absurd z (by omega)))
    (fun n i _ hi _ hw => pk_le c i (fun z => absurd z (by omega)) (fun _ => ⟨pk_in i 80 (by omega), br_f (by rw [nI_clamp (by omega)]; exact h i hi) (nm_r (nI_1 i) (hw () trivial))⟩))
theorem qz_closedYes {post : Int32 → Prop} {x : Int32} {r : Nat} (hc : c ≤ 40) (hfc : fc = nI c) (hr : r < c) (h : ∀ i, i < r → ¬ a1 i = x) (hx : a1 r = x) (hp : post (nI r)) :
    wpX_closedRow post (fc, fo, fe, cp, op, a1, a2, a3, a4, a5, a6, a7, a8) x := by
  subst hfc
  exact pk_loop (σ := Unit) (fun n i _ => wX_closedRow_2 post x (nI c) fo fe cp op a1 a2 a3 a4 a5 a6 a7 a8 n (nI i)) (fun _ _ => True) r 0 () (by omega) trivial
    (fun n _ _ => pk_le c r (fun z => absurd z (by omega)) (fun _ => ⟨pk_in r 80 (by omega), br_t (by rw [nI_clamp (by omega)]; exact hx) hp⟩))
    (fun n i _ hi _ hw => pk_le c i (fun z => absurd z (by omega)) (fun _ => ⟨pk_in i 80 (by omega), br_f (by rw [nI_clamp (by omega)]; exact h i hi) (nm_r (nI_1 i) (hw () trivial))⟩))
theorem qz_openNo {post : Int32 → Prop} {x : Int32} (ho : o ≤ 40) (hfo : fo = nI o) (h : ∀ j, j < o → ¬ a1 (40 + j) = x) (hp : post (-1)) :
    wpX_openRow post (fc, fo, fe, cp, op, a1, a2, a3, a4, a5, a6, a7, a8) x := by
  subst hfo
  exact pk_loop (σ := Unit) (fun n i _ => wX_openRow_3 post x fc (nI o) fe cp op a1 a2 a3 a4 a5 a6 a7 a8 n (nI (40 + i))) (fun _ _ => True) o 0 () (by omega) trivial
    (fun n _ _ => pk_le (40 + o) (40 + o) (fun _ => hp) (fun z => absurd z (by omega)) (hx := nI_add 40 o))
    (fun n i _ hi _ hw => pk_le (40 + o) (40 + i) (fun z => absurd z (by omega)) (fun _ => ⟨pk_in (40 + i) 80 (by omega), br_f (by rw [nI_clamp (by omega)]; exact h i hi) (nm_r (nI_1 (40 + i)) (hw () trivial))⟩) (hx := nI_add 40 o))
theorem qz_openYes {post : Int32 → Prop} {x : Int32} {q : Nat} (ho : o ≤ 40) (hfo : fo = nI o) (hq : q < o) (h : ∀ j, j < q → ¬ a1 (40 + j) = x) (hx : a1 (40 + q) = x) (hp : post (nI (40 + q))) :
    wpX_openRow post (fc, fo, fe, cp, op, a1, a2, a3, a4, a5, a6, a7, a8) x := by
  subst hfo
  exact pk_loop (σ := Unit) (fun n i _ => wX_openRow_3 post x fc (nI o) fe cp op a1 a2 a3 a4 a5 a6 a7 a8 n (nI (40 + i))) (fun _ _ => True) q 0 () (by omega) trivial
    (fun n _ _ => pk_le (40 + o) (40 + q) (fun z => absurd z (by omega)) (fun _ => ⟨pk_in (40 + q) 80 (by omega), br_t (by rw [nI_clamp (by omega)]; exact hx) hp⟩) (hx := nI_add 40 o))
    (fun n i _ hi _ hw => pk_le (40 + o) (40 + i) (fun z => absurd z (by omega)) (fun _ => ⟨pk_in (40 + i) 80 (by omega), br_f (by rw [nI_clamp (by omega)]; exact h i hi) (nm_r (nI_1 (40 + i)) (hw () trivial))⟩) (hx := nI_add 40 o))
theorem qz_start {post : St2 → Prop} {x y : Int32} {r k : Nat} (hx : x = nI r) (hy : y = nI k) (hr : r < 80) (hk : k < 32768) (hp : post (fc, fo, fe, cp, op, upd a1 r (nI k), upd a2 r 0, upd a3 r 0, upd a4 r 100, upd a5 r (-100), a6, a7, a8)) :
    wpX_startRow post (fc, fo, fe, cp, op, a1, a2, a3, a4, a5, a6, a7, a8) x y := by
  subst hx hy
  have e : (nI r).toNatClampNeg = r := nI_clamp (by omega)
  have i : vp_in (nI r) 80 := pk_in r 80 hr
  exact ⟨i, nm_r (by rw [e, qz_vs hk]) ⟨i, nm_r (by rw [e]) ⟨i, nm_r (by rw [e]) ⟨i, nm_r (by rw [e]) ⟨i, nm_r (by rw [e]) hp⟩⟩⟩⟩⟩
theorem qz_sorts {post : Int32 → Prop} (hc : c + o ≤ 40) (hfc : fc = nI c) (hfo : fo = nI o) (h : ∀ j, j < o → ∀ i, i < c → ¬ a1 i = a1 (40 + j)) (hp : post (nI (c + o))) :
    wpX_sorts post (fc, fo, fe, cp, op, a1, a2, a3, a4, a5, a6, a7, a8) := by
  subst hfc hfo
  exact pk_loop (σ := Unit) (fun n t _ => wX_sorts_8 post (nI c) (nI o) fe cp op a1 a2 a3 a4 a5 a6 a7 a8 n (nI (c + t)) (nI (40 + t))) (fun _ _ => True) o 0 () (by omega) trivial
    (fun n _ _ => pk_le (40 + o) (40 + o) (fun _ => hp) (fun z => absurd z (by omega)) (hx := nI_add 40 o))
    (fun n t _ ht _ hw => pk_le (40 + o) (40 + t) (fun z => absurd z (by omega)) (fun _ => ⟨pk_in (40 + t) 80 (by omega), qz_closedNo (by omega) rfl (fun i hi => by rw [nI_clamp (by omega)]; exact h t ht i hi) (br_f (by decide) (nm_r (nI_1 (c + t)) (nm_r (nI_1 (40 + t)) (hw () trivial))))⟩) (hx := nI_add 40 o))
/-- the last rows of take: the row r is there -/
theorem qz_237 {post : Int32 → St2 → Prop} {x6 z0 : Int32} {r : Nat} (hr : r < 80)
    (hx : (¬ 0 ≤ x6 ∧ post (a2 r) (fc, fo, fe + 1, cp, op, a1, a2, a3, a4, upd a5 r z0.toInt8.toInt32, a6, a7, a8)) ∨ (∃ q, q < 80 ∧ x6 = nI q ∧ post (a2 r + a2 q) (fc, fo, fe + 1, cp, op, a1, a2, a3, a4, upd a5 r z0.toInt8.toInt32, a6, a7, a8))) :
    wX_take_237 post x6 (nI r) z0 (nI r) fc fo fe cp op a1 a2 a3 a4 a5 a6 a7 a8 := by
  unfold wX_take_237
  rw [nI_clamp (show r < 2 ^ 31 by omega)]
  refine ⟨pk_in r 80 hr, nm_e (nm_e ?_)⟩
  rcases hx with ⟨h, h2⟩ | ⟨q, hq, rfl, h2⟩
  · exact br_f h ⟨pk_in r 80 hr, h2⟩
  · refine br_t (nI_pos' (by omega)) ⟨pk_in r 80 hr, pk_in q 80 hq, ?_⟩
    rw [nI_clamp (show q < 2 ^ 31 by omega)]
    exact h2
theorem qz_151 {post : Int32 → St2 → Prop} {x6 v : Int32} {r n : Nat} (hr : r < 80) (hn : n < 1000) (h2 : a2 r = nI n) (hv : qz_sml v)
    (hp : ∀ a4' a5' : Nat → Int32, (∀ j, j ≠ r → a4' j = a4 j ∧ a5' j = a5 j) → (a4 r = 100 → a4' r = v) → (a5 r = -100 → a5' r = v) →
      (¬ 0 ≤ x6 ∧ post (nI (n + 1)) (fc, fo, fe + 1, cp, op, a1, upd a2 r (nI (n + 1)), upd a3 r (a3 r + v), a4', a5', a6, a7, a8)) ∨ (∃ q, q < 80 ∧ x6 = nI q ∧ post (nI (n + 1) + upd a2 r (nI (n + 1)) q) (fc, fo, fe + 1, cp, op, a1, upd a2 r (nI (n + 1)), upd a3 r (a3 r + v), a4', a5', a6, a7, a8))) :
    wX_take_151 post v x6 (nI r) fc fo fe cp op a1 a2 a3 a4 a5 a6 a7 a8 := by
  have i : vp_in (nI r) 80 := pk_in r 80 hr
  have vb : v.toInt8.toInt32 = v := qz_vb hv
  unfold wX_take_151
  rw [nI_clamp (show r < 2 ^ 31 by omega)]
  refine ⟨i, i, nm_r (by rw [h2, nI_1, qz_vs (by omega)]) ⟨i, i, nm_e ⟨i, ?_⟩⟩⟩
  have main : ∀ z0 : Int32, (a4 r = 100 → z0 = v) → wX_take_205 post v x6 (nI r) z0 (nI r) fc fo fe cp op a1 (upd a2 r (nI (n + 1))) (upd a3 r (a3 r + v)) a4 a5 a6 a7 a8 := by
    intro z0 hz
    unfold wX_take_205
    rw [nI_clamp (show r < 2 ^ 31 by omega)]
    refine ⟨i, nm_e ⟨i, ?_⟩⟩
    have fin : ∀ y0 : Int32, (a5 r = -100 → y0 = v) → wX_take_237 post x6 (nI r) y0 (nI r) fc fo fe cp op a1 (upd a2 r (nI (n + 1))) (upd a3 r (a3 r + v)) (upd a4 r z0.toInt8.toInt32) a5 a6 a7 a8 := by
      intro y0 hy
      refine qz_237 hr ?_
      have t := hp (upd a4 r z0.toInt8.toInt32) (upd a5 r y0.toInt8.toInt32) (fun j hj => ⟨pk_un hj, pk_un hj⟩) (fun h => by rw [pk_us, hz h, vb]) (fun h => by rw [pk_us, hy h, vb])
      rw [pk_us]
      exact t
    refine br_c (fun z => ⟨i, fin _ (fun h => ?_)⟩) (fun _ => fin v (fun _ => rfl))
    rw [h] at z
    exact absurd z (Int32.not_le.mpr hv.1)
  refine br_c (fun z => ⟨i, main _ (fun h => ?_)⟩) (fun _ => main v (fun _ => rfl))
  rw [h] at z
  exact absurd z (Int32.not_le.mpr hv.2)
/-- the bit sets of the closed rows -/
def qz_ix (kf : Nat → Nat) (c : Nat) (a6 a7 a8 : Nat → Int64) : Prop :=
  (∀ h, h < 16 → ∀ r, r < 64 → qz_b (a6 h) r = (decide (r < c) && decide (kf r % 16 = h))) ∧
  (∀ v, v < 4 → ∀ r, r < 64 → qz_b (a7 v) r = (decide (r < c) && decide (kf r / 16 % 4 = v))) ∧
  (∀ v, v < 4 → ∀ r, r < 64 → qz_b (a8 v) r = (decide (r < c) && decide (kf r / 64 = v)))
/-- a row holds an event -/
def qz_row (V : Nat → Int32) (e r : Nat) (a1 a2 a3 a4 a5 : Nat → Int32) : Prop :=
  a1 r = nI (qz_K e) ∧ a2 r = nI 1 ∧ a3 r = V e ∧ a4 r = V e ∧ a5 r = V e
/-- the picture: c events in the closed part, o in the other one -/
def qz_I (V : Nat → Int32) (c o : Nat) (fc fo fe : Int32) (a1 a2 a3 a4 a5 : Nat → Int32) (a6 a7 a8 : Nat → Int64) : Prop :=
  c + o ≤ 16 ∧ fc = nI c ∧ fo = nI o ∧ fe = nI (c + o) ∧ (∀ e, e < c + o → qz_row V e (qz_rw c e) a1 a2 a3 a4 a5) ∧ qz_ix qz_K c a6 a7 a8
variable {V : Nat → Int32}
theorem qz_Kne {i e : Nat} (hi : i < 16) (he : e < 16) (h : i ≠ e) : ¬ nI (qz_K i) = nI (qz_K e) := by
  have k1 := qz_K256 i hi
  have k2 := qz_K256 e he
  rw [nI_eq (by omega) (by omega)]
  exact fun z => h (qz_Kin i hi e he z)
theorem qz_Isorts {post : Int32 → Prop} (hI : qz_I V c o fc fo fe a1 a2 a3 a4 a5 a6 a7 a8) (hp : post (nI (c + o))) :
    wpX_sorts post (fc, fo, fe, cp, op, a1, a2, a3, a4, a5, a6, a7, a8) := by
  obtain ⟨hN, hfc, hfo, hfe, hR, hX⟩ := hI
  refine qz_sorts (by omega) hfc hfo (fun j hj i hi => ?_) hp
  have r1 := (hR i (by omega)).1
  have r2 := (hR (c + j) (by omega)).1
  rw [qz_rwL hi] at r1
  rw [qz_rwH] at r2
  rw [r1, r2]
  exact qz_Kne (by omega) (by omega) (by omega)
/-- a new sort is taken -/
theorem qz_take {post : Int32 → St2 → Prop} {p k : Nat} {v : Int32} (hI : qz_I V c o fc fo fe a1 a2 a3 a4 a5 a6 a7 a8) (he : c + o = 4 * p + k) (hp4 : p < 4) (hk4 : k < 4) (hv : qz_sml v) (hV : V (c + o) = v)
    (hp : ∀ (fo' fe' : Int32) (b1 b2 b3 b4 b5 : Nat → Int32), qz_I V c (o + 1) fc fo' fe' b1 b2 b3 b4 b5 a6 a7 a8 → post (nI 1) (fc, fo', fe', cp, op, b1, b2, b3, b4, b5, a6, a7, a8)) :
    wpX_take post (fc, fo, fe, cp, op, a1, a2, a3, a4, a5, a6, a7, a8) (nI (20 + p)) (nI p) (nI k) v := by
  have hI0 := hI
  obtain ⟨hN, hfc, hfo, hfe, hR, hX⟩ := hI
  have key : nI (20 + p) / 4 + 16 * nI p + 64 * nI k = nI (qz_K (c + o)) := by
    show nI (20 + p) / nI 4 + nI 16 * nI p + nI 64 * nI k = nI (qz_K (c + o))
    rw [pk_div (by omega) (by omega) (by omega), pk_mul, pk_mul, nI_add, nI_add]
    congr 1
    unfold qz_K
    omega
  have k256 := qz_K256 (c + o) (by omega)
  have m1 : ¬ (0 : Int32) ≤ -1 := by decide
  refine br_f (nI_pos (by omega)) (br_f (nI_nlt (a := 63) (by omega) (by omega)) (br_f (nI_pos (by omega)) (br_f (nI_nlt (a := 3) (by omega) (by omega)) (br_f (nI_pos (by omega)) (br_f (nI_nlt (a := 3) (by omega) (by omega)) (br_f (Int32.not_lt.mpr (Int32.le_of_lt hv.1)) (br_t (Int32.le_of_lt hv.2) ⟨by decide, nm_r key ?_⟩)))))))
  refine qz_closedNo (c := c) (by omega) hfc (fun i hi => ?_) (qz_openNo (o := o) (by omega) hfo (fun j hj => ?_) (br_f m1 (br_f m1 ?_)))
  · have r1 := (hR i (by omega)).1
    rw [qz_rwL hi] at r1
    rw [r1]
    exact qz_Kne (by omega) (by omega) (by omega)
  · have r1 := (hR (c + j) (by omega)).1
    rw [qz_rwH] at r1
    rw [r1]
    exact qz_Kne (by omega) (by omega) (by omega)
  · refine br_f (by rw [hfe]; exact nI_ge (b := 400) (by omega) (by omega)) (br_f (by decide) (qz_Isorts hI0 (br_t (nI_lt (b := 40) (by omega) (by omega)) ?_)))
    refine br_f m1 (nm_r (show 40 + fo = nI (40 + o) by rw [hfo]; exact nI_add 40 o) (qz_start rfl rfl (by omega) (by omega) (nm_r (show fo + 1 = nI (o + 1) by rw [hfo]; exact nI_1 o) ?_)))
    refine qz_151 (n := 0) (by omega) (by omega) (by rw [pk_us]; rfl) hv (fun b4 b5 hb h4 h5 => Or.inl ⟨m1, ?_⟩)
    refine hp _ _ _ _ _ _ _ ⟨by omega, hfc, rfl, by rw [hfe]; exact nI_1 _, fun e he' => ?_, hX⟩
    by_cases q : e = c + o
    · subst q
      rw [qz_rwH]
      refine ⟨pk_us, pk_us, ?_, ?_, ?_⟩
      · rw [pk_us, pk_us, hV]
        exact Int32.zero_add v
      · rw [hV]; exact h4 pk_us
      · rw [hV]; exact h5 pk_us
    · have ne : qz_rw c e ≠ 40 + o := fun z => q (qz_rwI (c := c) (by omega) (z.trans qz_rwH.symm))
      obtain ⟨g1, g2, g3, g4, g5⟩ := hR e (by omega)
      have hb' := hb _ ne
      refine ⟨?_, ?_, ?_, ?_, ?_⟩
      · rw [pk_un ne]; exact g1
      · rw [pk_un ne, pk_un ne]; exact g2
      · rw [pk_un ne, pk_un ne]; exact g3
      · rw [hb'.1, pk_un ne]; exact g4
      · rw [hb'.2, pk_un ne]; exact g5
end
end
section
/-! the bit sets made anew; seal -/
theorem qz_hour {post : Int32 → Prop} {u : St0} {x : Int32} {k : Nat} (hx : x = nI k) (hk : k < 2 ^ 31) (hp : post (nI (k % 16))) : wpX_hourOf post u x := by
  subst hx
  unfold wpX_hourOf
  rw [pk_andN (by omega) (m := 15) 4 (by decide)]
  exact hp
theorem qz_place {post : Int32 → Prop} {u : St0} {x : Int32} {k : Nat} (hx : x = nI k) (hk : k < 2 ^ 31) (hp : post (nI (k / 16 % 4))) : wpX_placeOf post u x := by
  subst hx
  unfold wpX_placeOf
  rw [pk_shrN hk _ 4 (by decide), pk_andN (Nat.lt_of_le_of_lt (Nat.div_le_self _ _) (by omega)) (m := 3) 2 (by decide)]
  exact hp
theorem qz_kind {post : Int32 → Prop} {u : St0} {x : Int32} {k : Nat} (hx : x = nI k) (hk : k < 2 ^ 31) (hp : post (nI (k / 64))) : wpX_kindOf post u x := by
  subst hx
  unfold wpX_kindOf
  rw [pk_shrN hk _ 6 (by decide)]
  exact hp
theorem qz_set {N i x : Nat} {a : Nat → Int64} {g : Nat → Nat} (hi : i < 64) (hx : x = g i) (h : ∀ h, h < N → ∀ r, r < 64 → qz_b (a h) r = (decide (r < i) && decide (g r = h))) :
    ∀ h, h < N → ∀ r, r < 64 → qz_b (vp_updL a x (a x ||| (1 : Int64) <<< ((nI i).toInt64 &&& 63)) h) r = (decide (r < i + 1) && decide (g r = h)) := by
  intro t ht r hr
  by_cases e : t = x
  · subst e
    rw [pk_uLs, qz_bor, h t ht r hr, qz_b1 hi hr]
    by_cases q : r = i
    · subst q
      simp [hx]
    · have q1 : (r < i + 1) ↔ (r < i) := by omega
      simp [q, q1]
  · rw [pk_uLn e, h t ht r hr]
    by_cases q : r = i
    · subst q
      have : ¬ g r = t := fun z => e (z.symm.trans hx.symm)
      simp [this]
    · have q1 : (r < i + 1) ↔ (r < i) := by omega
      simp [q1]
section
variable {fc fo fe : Int32} {cp op : Int64} {a1 a2 a3 a4 a5 : Nat → Int32} {a6 a7 a8 : Nat → Int64} {c o : Nat}
theorem qz_x50 {post : St2 → Prop} {kf : Nat → Nat} (hc : c ≤ 40) (hfc : fc = nI c) (h1 : ∀ r, r < c → a1 r = nI (kf r) ∧ kf r < 256) (h0 : qz_ix kf 0 a6 a7 a8)
    (hp : ∀ b6 b7 b8 : Nat → Int64, qz_ix kf c b6 b7 b8 → post (fc, fo, fe, cp, op, a1, a2, a3, a4, a5, b6, b7, b8)) :
    ∃ n, wX_index_50 post fc fo fe cp op n 0 a1 a2 a3 a4 a5 a6 a7 a8 := by
  subst hfc
  refine pk_loop (fun n i (s : (Nat → Int64) × (Nat → Int64) × (Nat → Int64)) => wX_index_50 post (nI c) fo fe cp op n (nI i) a1 a2 a3 a4 a5 s.1 s.2.1 s.2.2) (fun i s => qz_ix kf i s.1 s.2.1 s.2.2) c 0 (a6, a7, a8) (by omega) h0
    (fun n s h => pk_le c c (fun _ => hp _ _ _ h) (fun z => absurd z (by omega))) (fun n i s hi h hw => ?_)
  obtain ⟨k1, k2⟩ := h1 i hi
  have ek : a1 (nI i).toNatClampNeg = nI (kf i) := by rw [nI_clamp (by omega)]; exact k1
  have d1 : kf i % 16 < 16 := Nat.mod_lt _ (by decide)
  have d2 : kf i / 16 % 4 < 4 := Nat.mod_lt _ (by decide)
  have d3 : kf i / 64 < 4 := by omega
  refine pk_le c i (fun z => absurd z (by omega)) (fun _ => nm_e ⟨pk_in i 80 (by omega), qz_hour ek (by omega) ⟨pk_in i 80 (by omega), qz_place ek (by omega) ⟨pk_in i 80 (by omega), qz_kind ek (by omega) ?_⟩⟩⟩)
  refine ⟨pk_in _ 16 d1, pk_in _ 16 d1, nm_r (by rw [nI_clamp (by omega)]) ⟨pk_in _ 4 d2, pk_in _ 4 d2, nm_r (by rw [nI_clamp (by omega)]) ⟨pk_in _ 4 d3, pk_in _ 4 d3, nm_r (by rw [nI_clamp (by omega)]) (nm_r (nI_1 i) ?_)⟩⟩⟩
  exact hw (vp_updL s.1 (kf i % 16) (s.1 (kf i % 16) ||| (1 : Int64) <<< ((nI i).toInt64 &&& 63)), vp_updL s.2.1 (kf i / 16 % 4) (s.2.1 (kf i / 16 % 4) ||| (1 : Int64) <<< ((nI i).toInt64 &&& 63)), vp_updL s.2.2 (kf i / 64) (s.2.2 (kf i / 64) ||| (1 : Int64) <<< ((nI i).toInt64 &&& 63)))
    ⟨qz_set (g := fun r => kf r % 16) (by omega) rfl h.1, qz_set (g := fun r => kf r / 16 % 4) (by omega) rfl h.2.1, qz_set (g := fun r => kf r / 64) (by omega) rfl h.2.2⟩
theorem qz_fillL {s : Nat → Int64} {i : Nat} (h : ∀ j, j < i → s j = 0) : ∀ j, j < i + 1 → vp_updL s i 0 j = 0 := by
  intro j hj
  by_cases e : j = i
  · rw [e, pk_uLs]
  · rw [pk_uLn e]
    exact h j (by omega)
theorem qz_index {post : St2 → Prop} {kf : Nat → Nat} (hc : c ≤ 40) (hfc : fc = nI c) (h1 : ∀ r, r < c → a1 r = nI (kf r) ∧ kf r < 256)
    (hp : ∀ b6 b7 b8 : Nat → Int64, qz_ix kf c b6 b7 b8 → post (fc, fo, fe, cp, op, a1, a2, a3, a4, a5, b6, b7, b8)) :
    wpX_index post (fc, fo, fe, cp, op, a1, a2, a3, a4, a5, a6, a7, a8) := by
  have x23 : ∀ b6 : Nat → Int64, (∀ h, h < 16 → b6 h = 0) → ∃ n, wX_index_23 post fc fo fe cp op n 0 a1 a2 a3 a4 a5 b6 a7 a8 := by
    intro b6 h6
    refine pk_loop (fun n i (s : (Nat → Int64) × (Nat → Int64)) => wX_index_23 post fc fo fe cp op n (nI i) a1 a2 a3 a4 a5 b6 s.1 s.2) (fun i s => (∀ j, j < i → s.1 j = 0) ∧ (∀ j, j < i → s.2 j = 0)) 4 0 (a7, a8) (by omega) ⟨fun j hj => absurd hj (by omega), fun j hj => absurd hj (by omega)⟩
      (fun n s h => pk_le 4 4 (fun _ => ?_) (fun z => absurd z (by omega))) (fun n i s hi h hw => pk_le 4 i (fun z => absurd z (by omega)) (fun _ => ⟨pk_in i 4 hi, nm_r (by rw [nI_clamp (by omega)]) ⟨pk_in i 4 hi, nm_r (by rw [nI_clamp (by omega)]) (nm_r (nI_1 i) ?_)⟩⟩))
    · refine qz_x50 hc hfc h1 ⟨fun t ht r hr => ?_, fun t ht r hr => ?_, fun t ht r hr => ?_⟩ hp
      · rw [h6 t ht, qz_b0]; simp
      · rw [h.1 t ht, qz_b0]; simp
      · rw [h.2 t ht, qz_b0]; simp
    · exact hw (vp_updL s.1 i 0, vp_updL s.2 i 0) ⟨qz_fillL h.1, qz_fillL h.2⟩
  exact pk_loop (fun n i (s : Nat → Int64) => wX_index_2 post fc fo fe cp op n (nI i) a1 a2 a3 a4 a5 s a7 a8) (fun i s => ∀ j, j < i → s j = 0) 16 0 a6 (by omega) (fun j hj => absurd hj (by omega))
    (fun n s h => pk_le 16 16 (fun _ => x23 s h) (fun z => absurd z (by omega)))
    (fun n i s hi h hw => pk_le 16 i (fun z => absurd z (by omega)) (fun _ => ⟨pk_in i 16 hi, nm_r (by rw [nI_clamp (by omega)]) (nm_r (nI_1 i) (hw (vp_updL s i 0) (qz_fillL h)))⟩))
theorem qz_55 {post : St2 → Prop} {J3 : Int32 → Int32 → Int32 → Int32 → Int64 → Int64 → (Nat → Int32) → (Nat → Int32) → (Nat → Int32) → (Nat → Int32) → (Nat → Int32) → (Nat → Int64) → (Nat → Int64) → (Nat → Int64) → Prop}
    {r q : Nat} {v : Int32} (hr : r < 80) (hq : q < 80) (hv : qz_sml v) (hr2 : a2 r = nI 1) (hq2 : a2 q = 0) (hr3 : a3 r = v) (hq3 : a3 q = 0) (hr4 : a4 r = v) (hq4 : a4 q = 100) (hr5 : a5 r = v) (hq5 : a5 q = -100)
    (hJ : J3 (nI (r + 1)) fc fo fe cp op a1 (upd a2 q (nI 1)) (upd a3 q v) (upd a4 q v) (upd a5 q v) a6 a7 a8) :
    wX_seal_55 post J3 (nI r) (nI q) fc fo fe cp op a1 a2 a3 a4 a5 a6 a7 a8 := by
  have ir : vp_in (nI r) 80 := pk_in r 80 hr
  have iq : vp_in (nI q) 80 := pk_in q 80 hq
  have vb : vp_nar .byte v = v := by rw [vp_nar_byte, qz_vb hv]
  unfold wX_seal_55
  rw [nI_clamp (show r < 2 ^ 31 by omega), nI_clamp (show q < 2 ^ 31 by omega), hr2, hq2, hr3, hq3, hr4, hq4]
  refine ⟨iq, ir, iq, nm_r (e' := upd a2 q (nI 1)) (by rw [show ((0 : Int32) + nI 1).toInt16.toInt32 = nI 1 by decide]) ⟨iq, ir, iq, nm_r (e' := upd a3 q v) (by rw [Int32.zero_add]) ⟨ir, iq, br_f (Int32.not_le.mpr hv.2) ⟨ir, ?_⟩⟩⟩⟩
  unfold wX_seal_121
  rw [nI_clamp (show r < 2 ^ 31 by omega), nI_clamp (show q < 2 ^ 31 by omega), hr5, hq5, vb]
  exact ⟨iq, nm_e ⟨ir, iq, br_f (Int32.not_le.mpr hv.1) ⟨ir, iq, nm_e (nm_r (nI_1 r) hJ)⟩⟩⟩
variable {V : Nat → Int32}
theorem qz_seal {post : St2 → Prop} (hV : ∀ e, e < 16 → qz_sml (V e)) (hI : qz_I V c o fc fo fe a1 a2 a3 a4 a5 a6 a7 a8)
    (hp : ∀ (fc' fo' : Int32) (b1 b2 b3 b4 b5 : Nat → Int32) (b6 b7 b8 : Nat → Int64), qz_I V (c + o) 0 fc' fo' fe b1 b2 b3 b4 b5 b6 b7 b8 → post (fc', fo', fe, cp, op, b1, b2, b3, b4, b5, b6, b7, b8)) :
    wpX_seal post (fc, fo, fe, cp, op, a1, a2, a3, a4, a5, a6, a7, a8) := by
  obtain ⟨hN, hfc, hfo, hfe, hR, hX⟩ := hI
  subst hfc hfo
  refine pk_loop (fun n t (s : (Nat → Int32) × (Nat → Int32) × (Nat → Int32) × (Nat → Int32) × (Nat → Int32)) => wX_seal_3 post n (nI (40 + t)) (nI (c + t)) (nI o) fe cp op s.1 s.2.1 s.2.2.1 s.2.2.2.1 s.2.2.2.2 a6 a7 a8)
    (fun t s => (∀ e, e < c + t → qz_row V e e s.1 s.2.1 s.2.2.1 s.2.2.2.1 s.2.2.2.2) ∧ (∀ j, j < o → qz_row V (c + j) (40 + j) s.1 s.2.1 s.2.2.1 s.2.2.2.1 s.2.2.2.2)) o 0 (a1, a2, a3, a4, a5) (by omega)
    ⟨fun e he => ?_, fun j hj => ?_⟩ (fun n s h => ?_) (fun n t s ht h hw => ?_)
  · have := hR e (by omega)
    rw [qz_rwL (show e < c by omega)] at this
    exact this
  · have := hR (c + j) (by omega)
    rw [qz_rwH] at this
    exact this
  · refine pk_le (40 + o) (40 + o) (fun _ => ?_) (fun z => absurd z (by omega)) (hx := nI_add 40 o)
    refine qz_index (c := c + o) (kf := qz_K) (by omega) rfl (fun r hr => ⟨(h.1 r hr).1, qz_K256 r (by omega)⟩) (fun b6 b7 b8 hb => ?_)
    refine hp _ _ _ _ _ _ _ _ _ _ ⟨by omega, rfl, rfl, hfe, fun e he => ?_, hb⟩
    rw [qz_rwL (show e < c + o by omega)]
    exact h.1 e he
  · obtain ⟨b1, b2, b3, b4, b5⟩ := s
    obtain ⟨h1, h2⟩ := h
    obtain ⟨g1, g2, g3, g4, g5⟩ := h2 t ht
    have ek : b1 (nI (40 + t)).toNatClampNeg = nI (qz_K (c + t)) := by rw [nI_clamp (by omega)]; exact g1
    have k256 := qz_K256 (c + t) (by omega)
    refine pk_le (40 + o) (40 + t) (fun z => absurd z (by omega)) (fun _ => ⟨pk_in (40 + t) 80 (by omega), qz_closedNo (c := c + t) (by omega) rfl (fun i hi => ?_) (br_f (by decide) ⟨pk_in (40 + t) 80 (by omega), qz_start rfl ek (by omega) (by omega) (nm_r (nI_1 (c + t)) ?_)⟩)⟩) (hx := nI_add 40 o)
    · have t1 : b1 i = nI (qz_K i) := (h1 i hi).1
      show ¬ b1 i = b1 (nI (40 + t)).toNatClampNeg
      rw [ek, t1]
      exact qz_Kne (by omega) (by omega) (by omega)
    · have ne : 40 + t ≠ c + t := by omega
      refine qz_55 (v := V (c + t)) (by omega) (by omega) (hV _ (by omega)) (by rw [pk_un ne]; exact g2) pk_us (by rw [pk_un ne]; exact g3) pk_us (by rw [pk_un ne]; exact g4) pk_us (by rw [pk_un ne]; exact g5) pk_us ?_
      refine hw (upd b1 (c + t) (nI (qz_K (c + t))), upd (upd b2 (c + t) 0) (c + t) (nI 1), upd (upd b3 (c + t) 0) (c + t) (V (c + t)), upd (upd b4 (c + t) 100) (c + t) (V (c + t)), upd (upd b5 (c + t) (-100)) (c + t) (V (c + t))) ⟨fun e he => ?_, fun j hj => ?_⟩
      · by_cases q : e = c + t
        · subst q
          exact ⟨pk_us, pk_us, pk_us, pk_us, pk_us⟩
        · obtain ⟨f1, f2, f3, f4, f5⟩ := h1 e (by omega)
          refine ⟨?_, ?_, ?_, ?_, ?_⟩
          · exact (pk_un q).trans f1
          · exact (pk_un q).trans ((pk_un q).trans f2)
          · exact (pk_un q).trans ((pk_un q).trans f3)
          · exact (pk_un q).trans ((pk_un q).trans f4)
          · exact (pk_un q).trans ((pk_un q).trans f5)
      · obtain ⟨f1, f2, f3, f4, f5⟩ := h2 j hj
        have q : 40 + j ≠ c + t := by omega
        refine ⟨?_, ?_, ?_, ?_, ?_⟩
        · exact (pk_un q).trans f1
        · exact (pk_un q).trans ((pk_un q).trans f2)
        · exact (pk_un q).trans ((pk_un q).trans f3)
        · exact (pk_un q).trans ((pk_un q).trans f4)
        · exact (pk_un q).trans ((pk_un q).trans f5)
end
end
section
/-! filters -/
def qz_tb (f v : Nat) : Bool := decide (f / 2 ^ v % 2 = 1)
def qz_md (m : Nat) (z : Bool) : Bool := if m < 2 then z else !z
def qz_jn (m : Nat) (x y : Bool) : Bool := if m % 2 = 0 then x && y else x || y
/-- a row with key k passes the filter f -/
def qz_pz (f k : Nat) : Bool := qz_md (f / 256 % 4) (qz_jn (f / 256 % 4) (qz_tb f (k / 16 % 4)) (qz_tb f (4 + k / 64))) && (decide (f / 1024 % 16 ≤ k % 16) && decide (k % 16 ≤ f / 16384))
def qz_sel (c o : Nat) (P : Nat → Bool) (cp op : Int64) : Prop := (∀ e, e < c → qz_b cp e = P e) ∧ (∀ j, j < o → qz_b op j = P (c + j))
def qz_i (z : Bool) : Int32 := if z then 1 else 0
theorem qz_tb0 {f v : Nat} (hf : f < 2 ^ 31) (hv : v < 32) : ((nI f >>> (nI v &&& 31)) &&& 1) = 0 ↔ qz_tb f v = false := by
  rw [qz_bit hf hv]
  have h2 : f / 2 ^ v % 2 < 2 := Nat.mod_lt _ (by decide)
  show nI (f / 2 ^ v % 2) = nI 0 ↔ _
  rw [nI_eq (by omega) (by omega)]
  unfold qz_tb
  rw [decide_eq_false_iff_not]
  omega
theorem qz_f10 {f : Nat} (hf : f < 262144) : (nI f >>> ((10 : Int32) &&& 31)) &&& 15 = nI (f / 1024 % 16) := by
  rw [pk_shrN (by omega) _ 10 (by decide), pk_andN (Nat.lt_of_le_of_lt (Nat.div_le_self _ _) (by omega)) (m := 15) 4 (by decide)]
theorem qz_f14 {f : Nat} (hf : f < 262144) : nI f >>> ((14 : Int32) &&& 31) = nI (f / 16384) := pk_shrN (by omega) _ 14 (by decide)
theorem qz_f8 {f : Nat} (hf : f < 262144) : (nI f >>> ((8 : Int32) &&& 31)) &&& 3 = nI (f / 256 % 4) := by
  rw [pk_shrN (by omega) _ 8 (by decide), pk_andN (Nat.lt_of_le_of_lt (Nat.div_le_self _ _) (by omega)) (m := 3) 2 (by decide)]
theorem qz_m1 {m : Nat} (hm : m < 4) : (nI m &&& 1) = nI (m % 2) := pk_andN (by omega) (m := 1) 1 (by decide)
theorem qz_at {α : Type} {post : α → Prop} {x y : α} (h : post x) (e : x = y) : post y := e ▸ h
/-! one key -/
theorem qz_p122 {post : Int32 → Prop} {y z : Bool} (hp : post (qz_i (z == y))) : wX_passes_122 post (qz_i y) (qz_i z) := by
  unfold wX_passes_122
  cases y <;> cases z
  · exact br_t rfl hp
  · exact br_f (by decide) hp
  · exact br_f (by decide) hp
  · exact br_t rfl hp
theorem qz_p88 {post : Int32 → Prop} {f h m : Nat} {z : Bool} (hf : f < 262144) (hh : h < 16) (hm : m < 4) (hp : post (qz_i (qz_md m z && (decide (f / 1024 % 16 ≤ h) && decide (h ≤ f / 16384))))) :
    wX_passes_88 post (nI f) (nI h) (nI m) (qz_i z) := by
  unfold wX_passes_88
  rw [qz_f10 hf, qz_f14 hf]
  have d1 : f / 1024 % 16 < 16 := Nat.mod_lt _ (by decide)
  have d2 : f / 16384 < 16 := by omega
  refine pk_lt h (f / 1024 % 16) (fun g => qz_at hp ?_) (fun g => pk_lt (f / 16384) h (fun g2 => qz_at hp ?_) (fun g2 => pk_le 2 m (fun g3 => qz_p122 (y := false) (qz_at hp ?_)) (fun g3 => qz_p122 (y := true) (qz_at hp ?_))))
  · rw [decide_eq_false (show ¬ f / 1024 % 16 ≤ h by omega), Bool.false_and, Bool.and_false]
    rfl
  · rw [decide_eq_false (show ¬ h ≤ f / 16384 by omega), Bool.and_false, Bool.and_false]
    rfl
  · rw [decide_eq_true g, decide_eq_true g2]
    unfold qz_md
    rw [if_neg (by omega)]
    cases z <;> rfl
  · rw [decide_eq_true g, decide_eq_true g2]
    unfold qz_md
    rw [if_pos (by omega)]
    cases z <;> rfl
theorem qz_p40 {post : Int32 → Prop} {f h : Nat} {x y : Bool} (hf : f < 262144) (hh : h < 16) (hp : post (qz_i (qz_md (f / 256 % 4) (qz_jn (f / 256 % 4) x y) && (decide (f / 1024 % 16 ≤ h) && decide (h ≤ f / 16384))))) :
    wX_passes_40 post (nI f) (nI h) (qz_i x) (qz_i y) := by
  have d : f / 256 % 4 < 4 := Nat.mod_lt _ (by decide)
  unfold wX_passes_40
  refine nm_r (qz_f8 hf) ?_
  rw [qz_m1 d]
  have key : ∀ z : Bool, qz_jn (f / 256 % 4) x y = z → wX_passes_88 post (nI f) (nI h) (nI (f / 256 % 4)) (qz_i z) := fun z hz => qz_p88 hf hh d (hz ▸ hp)
  refine pk_eq (f / 256 % 4 % 2) 0 (fun g => ?_) (fun g => ?_)
  · have j : qz_jn (f / 256 % 4) x y = (x && y) := if_pos g
    cases x <;> cases y
    · exact br_t rfl (key false j)
    · exact br_t rfl (key false j)
    · exact br_f (by decide) (br_t rfl (key false j))
    · exact br_f (by decide) (br_f (by decide) (key true j))
  · have j : qz_jn (f / 256 % 4) x y = (x || y) := if_neg g
    cases x <;> cases y
    · exact br_t rfl (br_t rfl (key false j))
    · exact br_t rfl (br_f (by decide) (key true j))
    · exact br_f (by decide) (key true j)
    · exact br_f (by decide) (key true j)
theorem qz_passes {post : Int32 → Prop} {u : St0} {x : Int32} {f k : Nat} (hx : x = nI k) (hf : f < 262144) (hk : k < 256) (hp : post (qz_i (qz_pz f k))) : wpX_passes post u (nI f) x := by
  have d1 : k % 16 < 16 := Nat.mod_lt _ (by decide)
  have d2 : k / 16 % 4 < 4 := Nat.mod_lt _ (by decide)
  have d3 : k / 64 < 4 := by omega
  have k21 : ∀ z : Bool, qz_tb f (k / 16 % 4) = z → wX_passes_21 post (nI f) x (nI (k % 16)) (qz_i z) := by
    intro z hz
    unfold wX_passes_21
    refine qz_kind hx (by omega) ?_
    rw [show 4 + nI (k / 64) = nI (4 + k / 64) from nI_add 4 (k / 64)]
    have main : ∀ y : Bool, qz_tb f (4 + k / 64) = y → wX_passes_40 post (nI f) (nI (k % 16)) (qz_i z) (qz_i y) := by
      intro y hy
      refine qz_p40 hf d1 ?_
      rw [← hz, ← hy]
      exact hp
    refine ek_if (qz_tb0 (by omega) (by omega)) (fun g => main false g) (fun g => main true ?_)
    cases t : qz_tb f (4 + k / 64) with
    | true => rfl
    | false => exact absurd t g
  unfold wpX_passes
  refine qz_hour hx (by omega) (qz_place hx (by omega) (ek_if (qz_tb0 (by omega) (by omega)) (fun g => k21 false g) (fun g => k21 true ?_)))
  cases t : qz_tb f (k / 16 % 4) with
  | true => rfl
  | false => exact absurd t g
section
variable {fc fo fe : Int32} {cp op : Int64} {a1 a2 a3 a4 a5 : Nat → Int32} {a6 a7 a8 : Nat → Int64} {c o : Nat}
/-! the closed part, by its bit sets -/
theorem qz_143 {post : St2 → Prop} {x6 z0 : Int64} {m : Nat} {Z H : Nat → Bool} (hm : m < 4) (hc : c ≤ 40) (hz : ∀ r, r < c → qz_b z0 r = Z r) (hh : ∀ r, r < c → qz_b x6 r = H r)
    (hp : ∀ cp' : Int64, (∀ r, r < c → qz_b cp' r = (qz_md m (Z r) && H r)) → post (fc, fo, fe, cp', op, a1, a2, a3, a4, a5, a6, a7, a8)) :
    wX_selectClosed_143 post x6 (nI m) z0 fc fo fe cp op a1 a2 a3 a4 a5 a6 a7 a8 := by
  unfold wX_selectClosed_143
  refine pk_le 2 m (fun g => nm_e (hp _ (fun r hr => ?_))) (fun g => nm_e (hp _ (fun r hr => ?_)))
  · rw [qz_band, qz_bnot _ (by omega), hz r hr, hh r hr]
    unfold qz_md
    rw [if_neg (by omega)]
  · rw [qz_band, hz r hr, hh r hr]
    unfold qz_md
    rw [if_pos (by omega)]
theorem qz_92 {post : St2 → Prop} {x2 x4 : Int64} {f : Nat} {X Y : Nat → Bool} {kf : Nat → Nat} (hf : f < 262144) (hft : f / 1024 % 16 ≤ f / 16384) (hc : c ≤ 40) (hx : ∀ r, r < c → qz_b x2 r = X r) (hy : ∀ r, r < c → qz_b x4 r = Y r) (hX : qz_ix kf c a6 a7 a8)
    (hp : ∀ cp' : Int64, (∀ r, r < c → qz_b cp' r = (qz_md (f / 256 % 4) (qz_jn (f / 256 % 4) (X r) (Y r)) && (decide (f / 1024 % 16 ≤ kf r % 16) && decide (kf r % 16 ≤ f / 16384)))) → post (fc, fo, fe, cp', op, a1, a2, a3, a4, a5, a6, a7, a8)) :
    ∃ n, wX_selectClosed_92 post (nI f) x2 x4 (nI (f / 16384)) fc fo fe cp op a1 a2 a3 a4 a5 a6 a7 a8 n 0 (nI (f / 1024 % 16)) := by
  have d : f / 256 % 4 < 4 := Nat.mod_lt _ (by decide)
  have d2 : f / 16384 < 16 := by omega
  refine pk_loop (fun n i (s : Int64) => wX_selectClosed_92 post (nI f) x2 x4 (nI (f / 16384)) fc fo fe cp op a1 a2 a3 a4 a5 a6 a7 a8 n s (nI i))
    (fun i s => f / 1024 % 16 ≤ i ∧ ∀ r, r < c → qz_b s r = (decide (f / 1024 % 16 ≤ kf r % 16) && decide (kf r % 16 < i))) (f / 16384 + 1) (f / 1024 % 16) 0 (by omega) ⟨Nat.le_refl _, fun r hr => ?_⟩ (fun n s h => ?_) (fun n i s hi h hw => ?_)
  · rw [qz_b0]
    by_cases g : f / 1024 % 16 ≤ kf r % 16
    · rw [decide_eq_false (show ¬ kf r % 16 < f / 1024 % 16 by omega), Bool.and_false]
    · rw [decide_eq_false g, Bool.false_and]
  · refine pk_lt (f / 16384) (f / 16384 + 1) (fun _ => nm_r (qz_f8 hf) ?_) (fun z => absurd z (by omega))
    have hh : ∀ r, r < c → qz_b s r = (decide (f / 1024 % 16 ≤ kf r % 16) && decide (kf r % 16 ≤ f / 16384)) := fun r hr => by
      rw [h.2 r hr, decide_eq_decide.mpr (show (kf r % 16 < f / 16384 + 1) ↔ (kf r % 16 ≤ f / 16384) by omega)]
    rw [qz_m1 d]
    refine pk_eq (f / 256 % 4 % 2) 0 (fun g => qz_143 d hc (Z := fun r => qz_jn (f / 256 % 4) (X r) (Y r)) (fun r hr => ?_) hh hp) (fun g => qz_143 d hc (Z := fun r => qz_jn (f / 256 % 4) (X r) (Y r)) (fun r hr => ?_) hh hp)
    · rw [qz_band, hx r hr, hy r hr]
      exact (if_pos g).symm
    · rw [qz_bor, hx r hr, hy r hr]
      exact (if_neg g).symm
  · refine pk_lt (f / 16384) i (fun z => absurd z (by omega)) (fun _ => ⟨pk_in i 16 (by omega), nm_r (by rw [nI_clamp (by omega)]) (nm_r (nI_1 i) (hw (s ||| a6 i) ⟨by omega, fun r hr => ?_⟩))⟩)
    rw [qz_bor, h.2 r hr, hX.1 i (by omega) r (by omega), decide_eq_true hr, Bool.true_and]
    have h1 := h.1
    by_cases g : kf r % 16 = i
    · rw [decide_eq_true g, Bool.or_true, decide_eq_true (show f / 1024 % 16 ≤ kf r % 16 by omega), decide_eq_true (show kf r % 16 < i + 1 by omega)]
      rfl
    · rw [decide_eq_false g, Bool.or_false, decide_eq_decide.mpr (show (kf r % 16 < i + 1) ↔ (kf r % 16 < i) by omega)]
theorem qz_38 {post : St2 → Prop} {J11 : Int64 → Int64 → Int32 → Prop} {x4 x6 z0 z1 : Int64} {f v : Nat} (hf : f < 262144) (hv : v < 4)
    (hJ : ∀ y4 : Int64, (∀ r, qz_b y4 r = (qz_b x4 r || (qz_tb f (4 + v) && qz_b (a8 v) r))) → J11 (z1 ||| z0) y4 (nI (v + 1))) :
    wX_selectClosed_38 post J11 (nI f) x4 x6 (nI v) z0 z1 fc fo fe cp op a1 a2 a3 a4 a5 a6 a7 a8 := by
  unfold wX_selectClosed_38
  refine nm_e ?_
  rw [show 4 + nI v = nI (4 + v) from nI_add 4 v, nI_clamp (show v < 2 ^ 31 by omega)]
  refine ek_if (qz_tb0 (by omega) (by omega)) (fun g => nm_e (nm_r (nI_1 v) (hJ _ (fun r => ?_)))) (fun g => ⟨pk_in v 4 hv, nm_e (nm_r (nI_1 v) (hJ _ (fun r => ?_)))⟩)
  · rw [qz_bor, qz_b0, g, Bool.false_and]
  · have t : qz_tb f (4 + v) = true := by
      cases t : qz_tb f (4 + v) with
      | true => rfl
      | false => exact absurd t g
    rw [qz_bor, t, Bool.true_and]
/-- one more value of four is joined in -/
theorem qz_join {g v : Nat} {t x y : Bool} {T : Nat → Bool} (ht : t = T v) (hx : x = (decide (g < v) && T g)) (hy : y = decide (g = v)) : (x || (t && y)) = (decide (g < v + 1) && T g) := by
  subst ht hx hy
  by_cases q : g = v
  · subst q
    rw [decide_eq_false (Nat.lt_irrefl g), decide_eq_true rfl, decide_eq_true (Nat.lt_succ_self g)]
    simp
  · rw [decide_eq_false q, Bool.and_false, Bool.or_false, decide_eq_decide.mpr (show (g < v + 1) ↔ (g < v) by omega)]
theorem qz_selectClosed {post : St2 → Prop} {f : Nat} {kf : Nat → Nat} (hf : f < 262144) (hft : f / 1024 % 16 ≤ f / 16384) (hc : c ≤ 40) (hk : ∀ r, r < c → kf r < 256) (hX : qz_ix kf c a6 a7 a8)
    (hp : ∀ cp' : Int64, (∀ r, r < c → qz_b cp' r = qz_pz f (kf r)) → post (fc, fo, fe, cp', op, a1, a2, a3, a4, a5, a6, a7, a8)) :
    wpX_selectClosed post (fc, fo, fe, cp, op, a1, a2, a3, a4, a5, a6, a7, a8) (nI f) := by
  refine pk_loop (fun n v (s : Int64 × Int64) => wX_selectClosed_11 post (nI f) 0 fc fo fe cp op a1 a2 a3 a4 a5 a6 a7 a8 n s.1 s.2 (nI v))
    (fun v s => (∀ r, r < c → qz_b s.1 r = (decide (kf r / 16 % 4 < v) && qz_tb f (kf r / 16 % 4))) ∧ (∀ r, r < c → qz_b s.2 r = (decide (kf r / 64 < v) && qz_tb f (4 + kf r / 64)))) 4 0 (0, 0) (by omega)
    ⟨fun r hr => ?_, fun r hr => ?_⟩ (fun n s h => ?_) (fun n v s hv h hw => ?_)
  · show qz_b 0 r = _
    rw [qz_b0, decide_eq_false (Nat.not_lt_zero _), Bool.false_and]
  · show qz_b 0 r = _
    rw [qz_b0, decide_eq_false (Nat.not_lt_zero _), Bool.false_and]
  · refine pk_le 4 4 (fun _ => nm_r (qz_f10 hf) (nm_r (qz_f14 hf) ?_)) (fun z => absurd z (by omega))
    refine qz_92 (X := fun r => qz_tb f (kf r / 16 % 4)) (Y := fun r => qz_tb f (4 + kf r / 64)) hf hft hc (fun r hr => ?_) (fun r hr => ?_) hX hp
    · rw [h.1 r hr, decide_eq_true (Nat.mod_lt _ (by decide)), Bool.true_and]
    · have := hk r hr
      rw [h.2 r hr, decide_eq_true (show kf r / 64 < 4 by omega), Bool.true_and]
  · refine pk_le 4 v (fun z => absurd z (by omega)) (fun _ => ?_)
    have fin : ∀ z0 : Int64, (∀ r, r < c → qz_b z0 r = (qz_tb f v && qz_b (a7 v) r)) → wX_selectClosed_38 post (wX_selectClosed_11 post (nI f) 0 fc fo fe cp op a1 a2 a3 a4 a5 a6 a7 a8 n) (nI f) s.2 0 (nI v) z0 s.1 fc fo fe cp op a1 a2 a3 a4 a5 a6 a7 a8 := by
      intro z0 hz
      refine qz_38 hf hv (fun y4 hy => hw (s.1 ||| z0, y4) ⟨fun r hr => ?_, fun r hr => ?_⟩)
      · show qz_b (s.1 ||| z0) r = _
        rw [qz_bor, hz r hr]
        refine qz_join (T := fun g => qz_tb f g) rfl (h.1 r hr) ?_
        rw [hX.2.1 v hv r (by omega), decide_eq_true hr, Bool.true_and]
      · show qz_b y4 r = _
        rw [hy r]
        refine qz_join (T := fun g => qz_tb f (4 + g)) rfl (h.2 r hr) ?_
        rw [hX.2.2 v hv r (by omega), decide_eq_true hr, Bool.true_and]
    refine ek_if (qz_tb0 (by omega) (by omega)) (fun g => fin 0 (fun r hr => ?_)) (fun g => ⟨pk_in v 4 hv, fin _ (fun r hr => ?_)⟩)
    · rw [qz_b0, g, Bool.false_and]
    · have t : qz_tb f v = true := by
        cases t : qz_tb f v with
        | true => rfl
        | false => exact absurd t g
      rw [nI_clamp (by omega), t, Bool.true_and]
theorem qz_select {post : Int32 → St2 → Prop} {f : Nat} {kf : Nat → Nat} (hf : f < 262144) (hft : f / 1024 % 16 ≤ f / 16384) (hc : c ≤ 40) (ho : o ≤ 40) (hfo : fo = nI o) (hk : ∀ e, e < c + o → a1 (qz_rw c e) = nI (kf e) ∧ kf e < 256) (hX : qz_ix kf c a6 a7 a8)
    (hp : ∀ cp' op' : Int64, qz_sel c o (fun e => qz_pz f (kf e)) cp' op' → post 1 (fc, fo, fe, cp', op', a1, a2, a3, a4, a5, a6, a7, a8)) :
    wpX_select post (fc, fo, fe, cp, op, a1, a2, a3, a4, a5, a6, a7, a8) (nI f) := by
  subst hfo
  refine br_f (nI_pos (by omega)) (br_f (nI_ge (b := 262144) hf (by omega)) (br_f (by decide) (qz_selectClosed hf hft hc (fun r hr => (hk r (by omega)).2) hX (fun cp' hcp => ?_))))
  refine pk_loop (fun n i (s : Int64) => wX_select_21 post (nI f) fc (nI o) fe cp' a1 a2 a3 a4 a5 a6 a7 a8 n (nI i) s)
    (fun i s => ∀ j, j < 40 → qz_b s j = (decide (j < i) && qz_pz f (kf (c + j)))) o 0 0 (by omega) (fun j hj => ?_) (fun n s h => ?_) (fun n i s hi h hw => ?_)
  · rw [qz_b0, decide_eq_false (Nat.not_lt_zero _), Bool.false_and]
  · refine pk_le o o (fun _ => hp _ _ ⟨hcp, fun j hj => ?_⟩) (fun z => absurd z (by omega))
    rw [h j (by omega), decide_eq_true hj, Bool.true_and]
  · have e40 : 40 + nI i = nI (40 + i) := nI_add 40 i
    have hki := hk (c + i) (by omega)
    rw [qz_rwH] at hki
    refine pk_le o i (fun z => absurd z (by omega)) (fun _ => ⟨pk_in (40 + i) 80 (by omega) e40, qz_passes (k := kf (c + i)) (by rw [e40, nI_clamp (by omega)]; exact hki.1) hf hki.2 ?_⟩)
    cases t : qz_pz f (kf (c + i)) with
    | false =>
      refine br_t rfl (nm_r (nI_1 i) (hw s (fun j hj => ?_)))
      rw [h j hj]
      by_cases q : j = i
      · subst q
        rw [t, Bool.and_false, Bool.and_false]
      · rw [decide_eq_decide.mpr (show (j < i + 1) ↔ (j < i) by omega)]
    | true =>
      refine br_f (by decide) (nm_e (nm_r (nI_1 i) (hw _ (fun j hj => ?_))))
      rw [qz_bor, h j hj, qz_b1 (by omega) (by omega)]
      by_cases q : j = i
      · subst q
        rw [t, decide_eq_true rfl, Bool.or_true, decide_eq_true (Nat.lt_succ_self j)]
        rfl
      · rw [decide_eq_false q, Bool.or_false, decide_eq_decide.mpr (show (j < i + 1) ↔ (j < i) by omega)]
/-! a row passes -/
theorem qz_passNo {post : Int32 → Prop} {P : Nat → Bool} {r : Nat} (hc : c ≤ 40) (ho : o ≤ 40) (hfc : fc = nI c) (hfo : fo = nI o) (hs : qz_sel c o P cp op) (hr : r < 80) (h : ∀ e, e < c + o → qz_rw c e = r → P e = false) (hp : post 0) :
    wpX_passing post (fc, fo, fe, cp, op, a1, a2, a3, a4, a5, a6, a7, a8) (nI r) := by
  subst hfc hfo
  refine pk_le 40 r (fun z => pk_le (40 + o) r (fun _ => hp) (fun z2 => br_t ?_ hp) (hx := nI_add 40 o)) (fun z => pk_le c r (fun _ => hp) (fun z2 => br_t ?_ hp))
  · rw [show nI r - 40 = nI (r - 40) from pk_sub z]
    refine (qz_test (by omega)).mpr ?_
    rw [hs.2 (r - 40) (by omega)]
    exact h _ (by omega) (by rw [qz_rwH]; omega)
  · refine (qz_test (by omega)).mpr ?_
    rw [hs.1 r z2]
    exact h _ (by omega) (qz_rwL z2)
theorem qz_passYes {post : Int32 → Prop} {P : Nat → Bool} {e : Nat} (hc : c ≤ 40) (ho : o ≤ 40) (hfc : fc = nI c) (hfo : fo = nI o) (hs : qz_sel c o P cp op) (he : e < c + o) (h : P e = true) (hp : post 1) :
    wpX_passing post (fc, fo, fe, cp, op, a1, a2, a3, a4, a5, a6, a7, a8) (nI (qz_rw c e)) := by
  subst hfc hfo
  by_cases q : e < c
  · rw [qz_rwL q]
    refine pk_le 40 e (fun z => absurd z (by omega)) (fun z => pk_le c e (fun z2 => absurd z2 (by omega)) (fun z2 => br_f (fun t => ?_) hp))
    have t' := (qz_test (by omega)).mp t
    rw [hs.1 e q, h] at t'
    exact absurd t' (by decide)
  · obtain ⟨j, rfl⟩ : ∃ j, e = c + j := ⟨e - c, by omega⟩
    rw [qz_rwH]
    refine pk_le 40 (40 + j) (fun z => pk_le (40 + o) (40 + j) (fun z2 => absurd z2 (by omega)) (fun z2 => br_f (fun t => ?_) hp) (hx := nI_add 40 o)) (fun z => absurd z (by omega))
    rw [show nI (40 + j) - 40 = nI j from (pk_sub z).trans (by rw [Nat.add_sub_cancel_left])] at t
    have t' := (qz_test (by omega)).mp t
    rw [hs.2 j (by omega), h] at t'
    exact absurd t' (by decide)
end
end
section
/-! the answers: folds over the events -/
def qz_ct (P : Nat → Bool) : Nat → Nat
  | 0 => 0
  | e + 1 => if P e then qz_ct P e + 1 else qz_ct P e
def qz_sm (P : Nat → Bool) (V : Nat → Int32) : Nat → Int32
  | 0 => 0
  | e + 1 => if P e then qz_sm P V e + V e else qz_sm P V e
def qz_ls (P : Nat → Bool) (V : Nat → Int32) : Nat → Int32
  | 0 => -1000000
  | e + 1 => if P e then (if qz_ls P V e = -1000000 then V e else if qz_ls P V e ≤ V e then qz_ls P V e else V e) else qz_ls P V e
def qz_gr (P : Nat → Bool) (V : Nat → Int32) : Nat → Int32
  | 0 => -1000000
  | e + 1 => if P e then (if qz_gr P V e = -1000000 then V e else if V e ≤ qz_gr P V e then qz_gr P V e else V e) else qz_gr P V e
def qz_hr (P : Nat → Bool) : Nat → Int32
  | 0 => 0
  | e + 1 => if P e then qz_hr P e ||| ((1 : Int32) <<< (nI 5 &&& 31)) else qz_hr P e
def qz_pt (k w : Nat) : Nat := if w = 0 then k % 16 else if w = 1 then k / 16 % 4 else k / 64
def qz_so (P : Nat → Bool) (V : Nat → Int32) (w v : Nat) : Nat → Int32 × Int32
  | 0 => (0, 0)
  | e + 1 => if P e then (if qz_pt (qz_K e) w = v then (1, (qz_so P V w v e).2 + V e) else qz_so P V w v e) else qz_so P V w v e
def qz_S (P : Nat → Bool) (V : Nat → Int32) (w v N : Nat) : Int32 := if (qz_so P V w v N).1 = 0 then -1000000 else (qz_so P V w v N).2
theorem qz_ifT {α : Type} {b : Bool} {x y : α} (h : b = true) : (if b = true then x else y) = x := if_pos h
theorem qz_ifF {α : Type} {b : Bool} {x y : α} (h : b = false) : (if b = true then x else y) = y := if_neg (by rw [h]; decide)
theorem qz_K5 : ∀ e, e < 16 → qz_K e % 16 = 5 := by decide +kernel
section
variable {fc fo fe : Int32} {cp op : Int64} {a1 a2 a3 a4 a5 : Nat → Int32} {a6 a7 a8 : Nat → Int64} {c o : Nat} {V : Nat → Int32} {P : Nat → Bool}
theorem qz_c14 {post : Int32 → St2 → Prop} (hI : qz_I V c o fc fo fe a1 a2 a3 a4 a5 a6 a7 a8) (hs : qz_sel c o P cp op) (hp : post (nI (qz_ct P (c + o))) (fc, fo, fe, cp, op, a1, a2, a3, a4, a5, a6, a7, a8)) :
    ∃ n, wX_count_14 post fc fo fe cp op a1 a2 a3 a4 a5 a6 a7 a8 n 0 0 := by
  obtain ⟨hN, hfc, hfo, hfe, hR, hX⟩ := hI
  have hc : c ≤ 40 := by omega
  have ho : o ≤ 40 := by omega
  exact qz_fold hc ho P (fun e => nI (qz_ct P e)) (fun n r s => wX_count_14 post fc fo fe cp op a1 a2 a3 a4 a5 a6 a7 a8 n s (nI r))
    (fun e he h => congrArg nI (qz_ifF h))
    (fun n => pk_le 80 80 (fun _ => hp) (fun z => absurd z (by omega)))
    (fun n r s hr h hw => pk_le 80 r (fun z => absurd z (by omega)) (fun _ => qz_passNo hc ho hfc hfo hs hr h (br_t rfl (nm_r (Int32.add_zero s) (nm_r (nI_1 r) hw)))))
    (fun n e he hb h hw => pk_le 80 (qz_rw c e) (fun z => absurd z (by omega)) (fun _ => qz_passYes hc ho hfc hfo hs he h (br_f (by decide) ⟨pk_in _ 80 hb, nm_r (by rw [nI_clamp (by omega), (hR e he).2.1, nI_add]; exact congrArg nI (qz_ifT h).symm) (nm_r (nI_1 _) hw)⟩)))
theorem qz_s15 {post : Int32 → St2 → Prop} (hI : qz_I V c o fc fo fe a1 a2 a3 a4 a5 a6 a7 a8) (hs : qz_sel c o P cp op) (hp : post (qz_sm P V (c + o)) (fc, fo, fe, cp, op, a1, a2, a3, a4, a5, a6, a7, a8)) :
    ∃ n, wX_sum_15 post fc fo fe cp op a1 a2 a3 a4 a5 a6 a7 a8 n 0 0 := by
  obtain ⟨hN, hfc, hfo, hfe, hR, hX⟩ := hI
  have hc : c ≤ 40 := by omega
  have ho : o ≤ 40 := by omega
  exact qz_fold hc ho P (fun e => qz_sm P V e) (fun n r s => wX_sum_15 post fc fo fe cp op a1 a2 a3 a4 a5 a6 a7 a8 n s (nI r))
    (fun e he h => qz_ifF h)
    (fun n => pk_le 80 80 (fun _ => hp) (fun z => absurd z (by omega)))
    (fun n r s hr h hw => pk_le 80 r (fun z => absurd z (by omega)) (fun _ => qz_passNo hc ho hfc hfo hs hr h (br_t rfl (nm_r (Int32.add_zero s) (nm_r (nI_1 r) hw)))))
    (fun n e he hb h hw => pk_le 80 (qz_rw c e) (fun z => absurd z (by omega)) (fun _ => qz_passYes hc ho hfc hfo hs he h (br_f (by decide) ⟨pk_in _ 80 hb, nm_r (by rw [nI_clamp (by omega), (hR e he).2.2.1]; exact (qz_ifT h).symm) (nm_r (nI_1 _) hw)⟩)))
theorem qz_l12 {post : Int32 → St2 → Prop} (hI : qz_I V c o fc fo fe a1 a2 a3 a4 a5 a6 a7 a8) (hs : qz_sel c o P cp op) (hp : post (qz_ls P V (c + o)) (fc, fo, fe, cp, op, a1, a2, a3, a4, a5, a6, a7, a8)) :
    ∃ n, wX_least_12 post 1 fc fo fe cp op a1 a2 a3 a4 a5 a6 a7 a8 n (-1000000) 0 := by
  obtain ⟨hN, hfc, hfo, hfe, hR, hX⟩ := hI
  have hc : c ≤ 40 := by omega
  have ho : o ≤ 40 := by omega
  have d : ¬ (1 : Int32) = 0 := by decide
  refine qz_fold hc ho P (fun e => qz_ls P V e) (fun n r s => wX_least_12 post 1 fc fo fe cp op a1 a2 a3 a4 a5 a6 a7 a8 n s (nI r))
    (fun e he h => qz_ifF h)
    (fun n => pk_le 80 80 (fun _ => hp) (fun z => absurd z (by omega)))
    (fun n r s hr h hw => pk_le 80 r (fun z => absurd z (by omega)) (fun _ => br_f d (qz_passNo hc ho hfc hfo hs hr h (br_t rfl (nm_r (nI_1 r) hw)))))
    (fun n e he hb h hw => pk_le 80 (qz_rw c e) (fun z => absurd z (by omega)) (fun _ => br_f d (qz_passYes hc ho hfc hfo hs he h (br_f d ?_))))
  have ea : a4 (nI (qz_rw c e)).toNatClampNeg = V e := by rw [nI_clamp (by omega)]; exact (hR e he).2.2.2.1
  have ib := pk_in (qz_rw c e) 80 hb
  have F : qz_ls P V (e + 1) = if qz_ls P V e = -1000000 then V e else if qz_ls P V e ≤ V e then qz_ls P V e else V e := qz_ifT h
  have hw' : wX_least_12 post 1 fc fo fe cp op a1 a2 a3 a4 a5 a6 a7 a8 n (qz_ls P V (e + 1)) (nI (qz_rw c e + 1)) := hw
  rw [F] at hw'
  refine br_c (fun g => ⟨ib, nm_r ea (nm_r (nI_1 _) ?_)⟩) (fun g => ⟨ib, br_c (fun g2 => nm_r (nI_1 _) ?_) (fun g2 => ⟨ib, nm_r ea (nm_r (nI_1 _) ?_)⟩)⟩)
  · rw [if_pos g] at hw'
    exact hw'
  · rw [ea] at g2
    rw [if_neg g, if_pos g2] at hw'
    exact hw'
  · rw [ea] at g2
    rw [if_neg g, if_neg g2] at hw'
    exact hw'
theorem qz_g12 {post : Int32 → St2 → Prop} (hI : qz_I V c o fc fo fe a1 a2 a3 a4 a5 a6 a7 a8) (hs : qz_sel c o P cp op) (hp : post (qz_gr P V (c + o)) (fc, fo, fe, cp, op, a1, a2, a3, a4, a5, a6, a7, a8)) :
    ∃ n, wX_greatest_12 post 1 fc fo fe cp op a1 a2 a3 a4 a5 a6 a7 a8 n (-1000000) 0 := by
  obtain ⟨hN, hfc, hfo, hfe, hR, hX⟩ := hI
  have hc : c ≤ 40 := by omega
  have ho : o ≤ 40 := by omega
  have d : ¬ (1 : Int32) = 0 := by decide
  refine qz_fold hc ho P (fun e => qz_gr P V e) (fun n r s => wX_greatest_12 post 1 fc fo fe cp op a1 a2 a3 a4 a5 a6 a7 a8 n s (nI r))
    (fun e he h => qz_ifF h)
    (fun n => pk_le 80 80 (fun _ => hp) (fun z => absurd z (by omega)))
    (fun n r s hr h hw => pk_le 80 r (fun z => absurd z (by omega)) (fun _ => br_f d (qz_passNo hc ho hfc hfo hs hr h (br_t rfl (nm_r (nI_1 r) hw)))))
    (fun n e he hb h hw => pk_le 80 (qz_rw c e) (fun z => absurd z (by omega)) (fun _ => br_f d (qz_passYes hc ho hfc hfo hs he h (br_f d ?_))))
  have ea : a5 (nI (qz_rw c e)).toNatClampNeg = V e := by rw [nI_clamp (by omega)]; exact (hR e he).2.2.2.2
  have ib := pk_in (qz_rw c e) 80 hb
  have F : qz_gr P V (e + 1) = if qz_gr P V e = -1000000 then V e else if V e ≤ qz_gr P V e then qz_gr P V e else V e := qz_ifT h
  have hw' : wX_greatest_12 post 1 fc fo fe cp op a1 a2 a3 a4 a5 a6 a7 a8 n (qz_gr P V (e + 1)) (nI (qz_rw c e + 1)) := hw
  rw [F] at hw'
  refine br_c (fun g => ⟨ib, nm_r ea (nm_r (nI_1 _) ?_)⟩) (fun g => ⟨ib, br_c (fun g2 => nm_r (nI_1 _) ?_) (fun g2 => ⟨ib, nm_r ea (nm_r (nI_1 _) ?_)⟩)⟩)
  · rw [if_pos g] at hw'
    exact hw'
  · rw [ea] at g2
    rw [if_neg g, if_pos g2] at hw'
    exact hw'
  · rw [ea] at g2
    rw [if_neg g, if_neg g2] at hw'
    exact hw'
/-! sortsPassing -/
theorem qz_52no {post : Int32 → St2 → Prop} {J : Int32 → Int32 → Prop} {s z0 : Int32} {r : Nat} (hc : c ≤ 40) (ho : o ≤ 40) (hfc : fc = nI c) (hfo : fo = nI o) (hs : qz_sel c o P cp op) (hr : r < 80) (h : ∀ e, e < c + o → qz_rw c e = r → P e = false) (hJ : J s (nI (r + 1))) :
    wX_sortsPassing_52 post J s (nI r) z0 fc fo fe cp op a1 a2 a3 a4 a5 a6 a7 a8 := by
  unfold wX_sortsPassing_52
  exact qz_passNo hc ho hfc hfo hs hr h (br_t rfl (nm_r (Int32.add_zero s) (nm_r (nI_1 r) hJ)))
theorem qz_52yes {post : Int32 → St2 → Prop} {J : Int32 → Int32 → Prop} {s : Int32} {e : Nat} (hc : c ≤ 40) (ho : o ≤ 40) (hfc : fc = nI c) (hfo : fo = nI o) (hs : qz_sel c o P cp op) (he : e < c + o) (h : P e = true) (hJ : J (s + 1) (nI (qz_rw c e + 1))) :
    wX_sortsPassing_52 post J s (nI (qz_rw c e)) 0 fc fo fe cp op a1 a2 a3 a4 a5 a6 a7 a8 := by
  unfold wX_sortsPassing_52
  exact qz_passYes hc ho hfc hfo hs he h (br_f (by decide) (br_t rfl (nm_e (nm_r (nI_1 _) hJ))))
theorem qz_p14 {post : Int32 → St2 → Prop} (hI : qz_I V c o fc fo fe a1 a2 a3 a4 a5 a6 a7 a8) (hs : qz_sel c o P cp op) (hp : post (nI (qz_ct P (c + o))) (fc, fo, fe, cp, op, a1, a2, a3, a4, a5, a6, a7, a8)) :
    ∃ n, wX_sortsPassing_14 post fc fo fe cp op a1 a2 a3 a4 a5 a6 a7 a8 n 0 0 := by
  obtain ⟨hN, hfc, hfo, hfe, hR, hX⟩ := hI
  have hc : c ≤ 40 := by omega
  have ho : o ≤ 40 := by omega
  refine qz_fold hc ho P (fun e => nI (qz_ct P e)) (fun n r s => wX_sortsPassing_14 post fc fo fe cp op a1 a2 a3 a4 a5 a6 a7 a8 n s (nI r))
    (fun e he h => congrArg nI (qz_ifF h))
    (fun n => pk_le 80 80 (fun _ => hp) (fun z => absurd z (by omega)))
    (fun n r s hr h hw => pk_le 80 r (fun z => absurd z (by omega)) (fun _ => pk_lt r 40 (fun g => ?_) (fun g => ?_)))
    (fun n e he hb h hw => pk_le 80 (qz_rw c e) (fun z => absurd z (by omega)) (fun _ => ?_))
  · unfold wX_sortsPassing_51
    exact qz_52no hc ho hfc hfo hs hr h hw
  · refine qz_passNo hc ho hfc hfo hs hr h (br_t rfl ?_)
    unfold wX_sortsPassing_51
    exact qz_52no hc ho hfc hfo hs hr h hw
  · have hw' : wX_sortsPassing_14 post fc fo fe cp op a1 a2 a3 a4 a5 a6 a7 a8 n (nI (qz_ct P e) + 1) (nI (qz_rw c e + 1)) := by
      rw [nI_1, ← (qz_ifT h : qz_ct P (e + 1) = qz_ct P e + 1)]
      exact hw
    refine pk_lt (qz_rw c e) 40 (fun g => ?_) (fun g => ?_)
    · unfold wX_sortsPassing_51
      exact qz_52yes hc ho hfc hfo hs he h hw'
    · refine qz_passYes hc ho hfc hfo hs he h (br_f (by decide) ⟨pk_in _ 80 hb, qz_closedNo hc hfc (fun i hi => ?_) (br_t (by decide) ?_)⟩)
      · rw [nI_clamp (by omega), (hR e he).1]
        have r1 := (hR i (by omega)).1
        rw [qz_rwL hi] at r1
        rw [r1]
        refine qz_Kne (by omega) (by omega) (fun z => ?_)
        rw [← z, qz_rwL hi] at g
        omega
      · unfold wX_sortsPassing_51
        exact qz_52yes hc ho hfc hfo hs he h hw'
/-! gaps -/
def qz_gp (x : Int32) : Nat → Int32 × Int32 × Int32
  | 0 => (0, 0, 0)
  | h + 1 => if ((x >>> (nI h &&& 31)) &&& 1) = 0 then ((qz_gp x h).1 + 0, (qz_gp x h).2.1 + 1, (qz_gp x h).2.2 ||| 0) else ((if (qz_gp x h).2.2 = 0 then (qz_gp x h).1 + 0 else (qz_gp x h).1 + (qz_gp x h).2.1), 0, (qz_gp x h).2.2 ||| 1)
theorem qz_g67 {post : Int32 → St2 → Prop} {x : Int32} (hp : post (qz_gp x 16).1 (fc, fo, fe, cp, op, a1, a2, a3, a4, a5, a6, a7, a8)) :
    ∃ n, wX_gaps_67 post x fc fo fe cp op a1 a2 a3 a4 a5 a6 a7 a8 n 0 0 0 0 := by
  refine qz_it (fun n h (s : Int32 × Int32 × Int32) => wX_gaps_67 post x fc fo fe cp op a1 a2 a3 a4 a5 a6 a7 a8 n s.1 s.2.1 s.2.2 (nI h)) (qz_gp x) 16
    (fun n => pk_le 16 16 (fun _ => hp) (fun z => absurd z (by omega))) (fun n h hh hw => pk_le 16 h (fun z => absurd z (by omega)) (fun _ => ?_))
  have hw' : wX_gaps_67 post x fc fo fe cp op a1 a2 a3 a4 a5 a6 a7 a8 n (qz_gp x (h + 1)).1 (qz_gp x (h + 1)).2.1 (qz_gp x (h + 1)).2.2 (nI (h + 1)) := hw
  have F : qz_gp x (h + 1) = if ((x >>> (nI h &&& 31)) &&& 1) = 0 then ((qz_gp x h).1 + 0, (qz_gp x h).2.1 + 1, (qz_gp x h).2.2 ||| 0) else ((if (qz_gp x h).2.2 = 0 then (qz_gp x h).1 + 0 else (qz_gp x h).1 + (qz_gp x h).2.1), 0, (qz_gp x h).2.2 ||| 1) := rfl
  refine br_c (fun g => ?_) (fun g => ?_)
  · rw [if_pos g] at F
    rw [F] at hw'
    exact br_t rfl (nm_e (br_t rfl (nm_e (nm_e (nm_r (nI_1 h) hw')))))
  · rw [if_neg g] at F
    have d : ¬ (1 : Int32) = 0 := by decide
    refine br_f d (br_c (fun g2 => ?_) (fun g2 => ?_))
    · rw [if_pos g2] at F
      rw [F] at hw'
      exact nm_e (br_f d (nm_e (nm_r (nI_1 h) hw')))
    · rw [if_neg g2] at F
      rw [F] at hw'
      exact nm_e (br_f d (nm_e (nm_r (nI_1 h) hw')))
theorem qz_hr2 (N : Nat) : qz_hr P N = 0 ∨ qz_hr P N = 32 := by
  induction N with
  | zero => exact Or.inl rfl
  | succ N ih =>
    cases h : P N with
    | false =>
      have t : qz_hr P (N + 1) = qz_hr P N := qz_ifF h
      rw [t]
      exact ih
    | true =>
      have t : qz_hr P (N + 1) = qz_hr P N ||| ((1 : Int32) <<< (nI 5 &&& 31)) := qz_ifT h
      rw [t]
      rcases ih with e | e
      · rw [e]; exact Or.inr (by decide)
      · rw [e]; exact Or.inr (by decide)
theorem qz_gp0 : (qz_gp 0 16).1 = 0 ∧ (qz_gp 32 16).1 = 0 := by decide +kernel
theorem qz_g14 {post : Int32 → St2 → Prop} (hI : qz_I V c o fc fo fe a1 a2 a3 a4 a5 a6 a7 a8) (hs : qz_sel c o P cp op) (hp : post 0 (fc, fo, fe, cp, op, a1, a2, a3, a4, a5, a6, a7, a8)) :
    ∃ n, wX_gaps_14 post fc fo fe cp op a1 a2 a3 a4 a5 a6 a7 a8 n 0 0 := by
  obtain ⟨hN, hfc, hfo, hfe, hR, hX⟩ := hI
  have hc : c ≤ 40 := by omega
  have ho : o ≤ 40 := by omega
  refine qz_fold hc ho P (fun e => qz_hr P e) (fun n r s => wX_gaps_14 post fc fo fe cp op a1 a2 a3 a4 a5 a6 a7 a8 n s (nI r))
    (fun e he h => qz_ifF h)
    (fun n => pk_le 80 80 (fun _ => qz_g67 ?_) (fun z => absurd z (by omega)))
    (fun n r s hr h hw => pk_le 80 r (fun z => absurd z (by omega)) (fun _ => qz_passNo hc ho hfc hfo hs hr h (br_t rfl (nm_r (Int32.or_zero) (nm_r (nI_1 r) hw)))))
    (fun n e he hb h hw => pk_le 80 (qz_rw c e) (fun z => absurd z (by omega)) (fun _ => qz_passYes hc ho hfc hfo hs he h (br_f (by decide) ⟨pk_in _ 80 hb, qz_hour (k := qz_K e) (by rw [nI_clamp (by omega)]; exact (hR e he).1) (by have := qz_K256 e (by omega); omega) (nm_e (nm_r ?_ (nm_r (nI_1 _) hw)))⟩)))
  · have t : (qz_gp (qz_hr P (c + o)) 16).1 = 0 := by
      rcases qz_hr2 (P := P) (c + o) with e | e
      · rw [e]; exact qz_gp0.1
      · rw [e]; exact qz_gp0.2
    show post (qz_gp (qz_hr P (c + o)) 16).1 _
    rw [t]
    exact hp
  · rw [qz_K5 e (by omega)]
    exact (qz_ifT h).symm
/-! sumOf, bestOf, top -/
theorem qz_part {post : Int32 → Prop} {u : St0} {x : Int32} {k w : Nat} (hx : x = nI k) (hk : k < 256) (hw : w < 3) (hp : post (nI (qz_pt k w))) : wpX_part post u x (nI w) := by
  unfold wpX_part
  unfold qz_pt at hp
  refine pk_eq w 0 (fun g => ?_) (fun g => pk_eq w 1 (fun g2 => ?_) (fun g2 => ?_))
  · rw [if_pos g] at hp
    exact qz_hour hx (by omega) hp
  · rw [if_neg g, if_pos g2] at hp
    exact qz_place hx (by omega) hp
  · rw [if_neg g, if_neg g2] at hp
    exact qz_kind hx (by omega) hp
theorem qz_ptL {k w : Nat} (hk : k < 256) : qz_pt k w < 256 := by
  unfold qz_pt
  split
  · omega
  · split <;> omega
theorem qz_sumOf {post : Int32 → Prop} {w v : Nat} (hw3 : w < 3) (hv : v < 16) (hI : qz_I V c o fc fo fe a1 a2 a3 a4 a5 a6 a7 a8) (hs : qz_sel c o P cp op) (hp : post (qz_S P V w v (c + o))) :
    wpX_sumOf post (fc, fo, fe, cp, op, a1, a2, a3, a4, a5, a6, a7, a8) (nI w) (nI v) := by
  obtain ⟨hN, hfc, hfo, hfe, hR, hX⟩ := hI
  have hc : c ≤ 40 := by omega
  have ho : o ≤ 40 := by omega
  refine qz_fold hc ho P (fun e => qz_so P V w v e) (fun n r (s : Int32 × Int32) => wX_sumOf_8 post (nI w) (nI v) fc fo fe cp op a1 a2 a3 a4 a5 a6 a7 a8 n s.1 s.2 (nI r))
    (fun e he h => qz_ifF h)
    (fun n => pk_le 80 80 (fun _ => ?_) (fun z => absurd z (by omega)))
    (fun n r s hr h hw => pk_le 80 r (fun z => absurd z (by omega)) (fun _ => qz_passNo hc ho hfc hfo hs hr h (br_t rfl (nm_r (nI_1 r) hw))))
    (fun n e he hb h hw => pk_le 80 (qz_rw c e) (fun z => absurd z (by omega)) (fun _ => qz_passYes hc ho hfc hfo hs he h (br_f (by decide) ⟨pk_in _ 80 hb, qz_part (k := qz_K e) (by rw [nI_clamp (by omega)]; exact (hR e he).1) (qz_K256 e (by omega)) hw3 ?_⟩)))
  · unfold qz_S at hp
    refine br_c (fun g => ?_) (fun g => ?_)
    · rw [if_pos g] at hp
      exact hp
    · rw [if_neg g] at hp
      exact hp
  · have hw' : wX_sumOf_8 post (nI w) (nI v) fc fo fe cp op a1 a2 a3 a4 a5 a6 a7 a8 n (qz_so P V w v (e + 1)).1 (qz_so P V w v (e + 1)).2 (nI (qz_rw c e + 1)) := hw
    have F : qz_so P V w v (e + 1) = if qz_pt (qz_K e) w = v then (1, (qz_so P V w v e).2 + V e) else qz_so P V w v e := qz_ifT h
    have l := qz_ptL (w := w) (qz_K256 e (by omega))
    refine pk_eq (qz_pt (qz_K e) w) v (fun g => ⟨pk_in _ 80 hb, nm_r (e' := (qz_so P V w v e).2 + V e) (by rw [nI_clamp (by omega), (hR e he).2.2.1]) (nm_r (nI_1 _) ?_)⟩) (fun g => nm_r (nI_1 _) ?_)
    · rw [if_pos g] at F
      rw [F] at hw'
      exact hw'
    · rw [if_neg g] at F
      rw [F] at hw'
      exact hw'
def qz_st (S : Nat → Int32) (t : Int32) (v : Nat) (g : Int32 × Int32) : Int32 × Int32 :=
  if (if ((t >>> (nI v &&& 31)) &&& 1) = 0 then S v else -1000000) = -1000000 then g else if g.1 < 0 then (nI v, if ((t >>> (nI v &&& 31)) &&& 1) = 0 then S v else -1000000) else if (if ((t >>> (nI v &&& 31)) &&& 1) = 0 then S v else -1000000) ≤ g.2 then g else (nI v, if ((t >>> (nI v &&& 31)) &&& 1) = 0 then S v else -1000000)
def qz_bo (S : Nat → Int32) (t : Int32) : Nat → Int32 × Int32
  | 0 => (-1, 0)
  | v + 1 => qz_st S t v (qz_bo S t v)
theorem qz_b36 {post : Int32 → Prop} {J : Int32 → Int32 → Int32 → Prop} {x1 x2 z : Int32} {v : Nat} {g : Int32 × Int32}
    (hJ : J (if z = -1000000 then g else if g.1 < 0 then (nI v, z) else if z ≤ g.2 then g else (nI v, z)).1 (if z = -1000000 then g else if g.1 < 0 then (nI v, z) else if z ≤ g.2 then g else (nI v, z)).2 (nI (v + 1))) :
    wX_bestOf_36 post J x1 x2 g.1 g.2 (nI v) z fc fo fe cp op a1 a2 a3 a4 a5 a6 a7 a8 := by
  unfold wX_bestOf_36
  refine br_c (fun q => nm_r (nI_1 v) ?_) (fun q => br_c (fun q2 => nm_r (nI_1 v) ?_) (fun q2 => br_c (fun q3 => nm_r (nI_1 v) ?_) (fun q3 => nm_r (nI_1 v) ?_)))
  · rw [if_pos q] at hJ
    exact hJ
  · rw [if_neg q, if_pos q2] at hJ
    exact hJ
  · rw [if_neg q, if_neg q2, if_pos q3] at hJ
    exact hJ
  · rw [if_neg q, if_neg q2, if_neg q3] at hJ
    exact hJ
theorem qz_bestOf {post : Int32 → Prop} {w t : Int32} {S : Nat → Int32} (hS : ∀ v, v < 16 → ∀ post' : Int32 → Prop, post' (S v) → wpX_sumOf post' (fc, fo, fe, cp, op, a1, a2, a3, a4, a5, a6, a7, a8) w (nI v)) (hp : post (qz_bo S t 16).1) :
    wpX_bestOf post (fc, fo, fe, cp, op, a1, a2, a3, a4, a5, a6, a7, a8) w t := by
  refine qz_it (fun n v (s : Int32 × Int32) => wX_bestOf_8 post w t fc fo fe cp op a1 a2 a3 a4 a5 a6 a7 a8 n s.1 s.2 (nI v)) (qz_bo S t) 16
    (fun n => pk_le 16 16 (fun _ => hp) (fun z => absurd z (by omega))) (fun n v hv hw => pk_le 16 v (fun z => absurd z (by omega)) (fun _ => ?_))
  have hw' : wX_bestOf_8 post w t fc fo fe cp op a1 a2 a3 a4 a5 a6 a7 a8 n (qz_st S t v (qz_bo S t v)).1 (qz_st S t v (qz_bo S t v)).2 (nI (v + 1)) := hw
  unfold qz_st at hw'
  refine br_c (fun g => hS v hv _ (qz_b36 ?_)) (fun g => qz_b36 ?_)
  · rw [if_pos g] at hw'
    exact hw'
  · rw [if_neg g] at hw'
    exact hw'
def qz_tf (S : Nat → Int32) (N : Nat) : Nat → Int32 → Int32 → Nat → Int32
  | 0 => fun _ b _ => b
  | m + 1 => fun t b k => if N < k then b else if 0 ≤ (qz_bo S t 16).1 then qz_tf S N m (t ||| ((1 : Int32) <<< ((qz_bo S t 16).1 &&& 31))) (qz_bo S t 16).1 (k + 1) else -1
theorem qz_t32 {post : Int32 → St2 → Prop} {w : Int32} {N : Nat} {S : Nat → Int32} (hN : N ≤ 16) (hS : ∀ v, v < 16 → ∀ post' : Int32 → Prop, post' (S v) → wpX_sumOf post' (fc, fo, fe, cp, op, a1, a2, a3, a4, a5, a6, a7, a8) w (nI v)) :
    ∀ m t b k, k ≤ N + 1 → N < k + m → post (qz_tf S N m t b k) (fc, fo, fe, cp, op, a1, a2, a3, a4, a5, a6, a7, a8) → wX_top_32 post w (nI N) fc fo fe cp op a1 a2 a3 a4 a5 a6 a7 a8 (m + 1) t b (nI k) := by
  intro m
  induction m with
  | zero =>
    intro t b k hk hm hp
    exact pk_lt N k (fun _ => hp) (fun z => absurd z (by omega))
  | succ m ih =>
    intro t b k hk hm hp
    have hp' : post (if N < k then b else if 0 ≤ (qz_bo S t 16).1 then qz_tf S N m (t ||| ((1 : Int32) <<< ((qz_bo S t 16).1 &&& 31))) (qz_bo S t 16).1 (k + 1) else -1) (fc, fo, fe, cp, op, a1, a2, a3, a4, a5, a6, a7, a8) := hp
    refine pk_lt N k (fun z => ?_) (fun z => pk_lt 16 k (fun z2 => absurd z2 (by omega)) (fun _ => qz_bestOf hS (br_c (fun g => nm_e (nm_r (nI_1 k) (ih _ _ (k + 1) (by omega) (by omega) ?_))) (fun g => ?_))))
    · rw [if_pos z] at hp'
      exact hp'
    · rw [if_neg (by omega), if_pos g] at hp'
      exact hp'
    · rw [if_neg (by omega), if_neg g] at hp'
      exact hp'
end
end
section
/-! the public answers over the picture; the last take; forget -/
section
variable {fc fo fe : Int32} {cp op : Int64} {a1 a2 a3 a4 a5 : Nat → Int32} {a6 a7 a8 : Nat → Int64} {c o : Nat} {V : Nat → Int32} {P : Nat → Bool} {f : Nat}
theorem qz_selP {cp' op' : Int64} {Q : Nat → Bool} (h : qz_sel c o Q cp' op') (hP : ∀ e, e < c + o → Q e = P e) : qz_sel c o P cp' op' :=
  ⟨fun e he => (h.1 e he).trans (hP e (by omega)), fun j hj => (h.2 j hj).trans (hP (c + j) (by omega))⟩
theorem qz_Isel {post : Int32 → St2 → Prop} (hf : f < 262144) (hft : f / 1024 % 16 ≤ f / 16384) (hI : qz_I V c o fc fo fe a1 a2 a3 a4 a5 a6 a7 a8) (hP : ∀ e, e < c + o → qz_pz f (qz_K e) = P e)
    (hp : ∀ cp' op' : Int64, qz_sel c o P cp' op' → post 1 (fc, fo, fe, cp', op', a1, a2, a3, a4, a5, a6, a7, a8)) :
    wpX_select post (fc, fo, fe, cp, op, a1, a2, a3, a4, a5, a6, a7, a8) (nI f) := by
  obtain ⟨hN, hfc, hfo, hfe, hR, hX⟩ := hI
  exact qz_select hf hft (by omega) (by omega) hfo (fun e he => ⟨(hR e he).1, qz_K256 e (by omega)⟩) hX (fun cp' op' h => hp cp' op' (qz_selP h hP))
theorem qz_count {post : Int32 → St2 → Prop} (hf : f < 262144) (hft : f / 1024 % 16 ≤ f / 16384) (hI : qz_I V c o fc fo fe a1 a2 a3 a4 a5 a6 a7 a8) (hP : ∀ e, e < c + o → qz_pz f (qz_K e) = P e)
    (hp : ∀ cp' op' : Int64, post (nI (qz_ct P (c + o))) (fc, fo, fe, cp', op', a1, a2, a3, a4, a5, a6, a7, a8)) :
    wpX_count post (fc, fo, fe, cp, op, a1, a2, a3, a4, a5, a6, a7, a8) (nI f) := by
  unfold wpX_count
  exact qz_Isel hf hft hI hP (fun cp' op' hs => br_f (by decide) (qz_c14 hI hs (hp cp' op')))
theorem qz_sum {post : Int32 → St2 → Prop} (hf : f < 262144) (hft : f / 1024 % 16 ≤ f / 16384) (hI : qz_I V c o fc fo fe a1 a2 a3 a4 a5 a6 a7 a8) (hP : ∀ e, e < c + o → qz_pz f (qz_K e) = P e)
    (hp : ∀ cp' op' : Int64, post (qz_sm P V (c + o)) (fc, fo, fe, cp', op', a1, a2, a3, a4, a5, a6, a7, a8)) :
    wpX_sum post (fc, fo, fe, cp, op, a1, a2, a3, a4, a5, a6, a7, a8) (nI f) := by
  unfold wpX_sum
  exact qz_Isel hf hft hI hP (fun cp' op' hs => br_f (by decide) (qz_s15 hI hs (hp cp' op')))
theorem qz_least {post : Int32 → St2 → Prop} (hf : f < 262144) (hft : f / 1024 % 16 ≤ f / 16384) (hI : qz_I V c o fc fo fe a1 a2 a3 a4 a5 a6 a7 a8) (hP : ∀ e, e < c + o → qz_pz f (qz_K e) = P e)
    (hp : ∀ cp' op' : Int64, post (qz_ls P V (c + o)) (fc, fo, fe, cp', op', a1, a2, a3, a4, a5, a6, a7, a8)) :
    wpX_least post (fc, fo, fe, cp, op, a1, a2, a3, a4, a5, a6, a7, a8) (nI f) := by
  unfold wpX_least
  exact qz_Isel hf hft hI hP (fun cp' op' hs => qz_l12 hI hs (hp cp' op'))
theorem qz_greatest {post : Int32 → St2 → Prop} (hf : f < 262144) (hft : f / 1024 % 16 ≤ f / 16384) (hI : qz_I V c o fc fo fe a1 a2 a3 a4 a5 a6 a7 a8) (hP : ∀ e, e < c + o → qz_pz f (qz_K e) = P e)
    (hp : ∀ cp' op' : Int64, post (qz_gr P V (c + o)) (fc, fo, fe, cp', op', a1, a2, a3, a4, a5, a6, a7, a8)) :
    wpX_greatest post (fc, fo, fe, cp, op, a1, a2, a3, a4, a5, a6, a7, a8) (nI f) := by
  unfold wpX_greatest
  exact qz_Isel hf hft hI hP (fun cp' op' hs => qz_g12 hI hs (hp cp' op'))
theorem qz_sortsPassing {post : Int32 → St2 → Prop} (hf : f < 262144) (hft : f / 1024 % 16 ≤ f / 16384) (hI : qz_I V c o fc fo fe a1 a2 a3 a4 a5 a6 a7 a8) (hP : ∀ e, e < c + o → qz_pz f (qz_K e) = P e)
    (hp : ∀ cp' op' : Int64, post (nI (qz_ct P (c + o))) (fc, fo, fe, cp', op', a1, a2, a3, a4, a5, a6, a7, a8)) :
    wpX_sortsPassing post (fc, fo, fe, cp, op, a1, a2, a3, a4, a5, a6, a7, a8) (nI f) := by
  unfold wpX_sortsPassing
  exact qz_Isel hf hft hI hP (fun cp' op' hs => br_f (by decide) (qz_p14 hI hs (hp cp' op')))
theorem qz_gaps {post : Int32 → St2 → Prop} (hf : f < 262144) (hft : f / 1024 % 16 ≤ f / 16384) (hI : qz_I V c o fc fo fe a1 a2 a3 a4 a5 a6 a7 a8)
    (hp : ∀ cp' op' : Int64, post 0 (fc, fo, fe, cp', op', a1, a2, a3, a4, a5, a6, a7, a8)) :
    wpX_gaps post (fc, fo, fe, cp, op, a1, a2, a3, a4, a5, a6, a7, a8) (nI f) := by
  unfold wpX_gaps
  exact qz_Isel (P := fun e => qz_pz f (qz_K e)) hf hft hI (fun _ _ => rfl) (fun cp' op' hs => br_f (by decide) (qz_g14 hI hs (hp cp' op')))
theorem qz_sumFor {post : Int32 → St2 → Prop} {w v : Nat} (hw : w < 3) (hv : v < 16) (hf : f < 262144) (hft : f / 1024 % 16 ≤ f / 16384) (hI : qz_I V c o fc fo fe a1 a2 a3 a4 a5 a6 a7 a8) (hP : ∀ e, e < c + o → qz_pz f (qz_K e) = P e)
    (hp : ∀ cp' op' : Int64, post (qz_S P V w v (c + o)) (fc, fo, fe, cp', op', a1, a2, a3, a4, a5, a6, a7, a8)) :
    wpX_sumFor post (fc, fo, fe, cp, op, a1, a2, a3, a4, a5, a6, a7, a8) (nI f) (nI w) (nI v) := by
  unfold wpX_sumFor
  exact br_f (nI_pos (by omega)) (br_f (nI_nlt (a := 2) (by omega) (by omega)) (qz_Isel hf hft hI hP (fun cp' op' hs => br_f (by decide) (qz_sumOf hw hv hI hs (hp cp' op')))))
theorem qz_top {post : Int32 → St2 → Prop} {w N : Nat} {S : Nat → Int32} (hw : w < 3) (hN : N ≤ 16) (hf : f < 262144) (hft : f / 1024 % 16 ≤ f / 16384) (hI : qz_I V c o fc fo fe a1 a2 a3 a4 a5 a6 a7 a8) (hP : ∀ e, e < c + o → qz_pz f (qz_K e) = P e)
    (hS : ∀ v, v < 16 → qz_S P V w v (c + o) = S v)
    (hp : ∀ cp' op' : Int64, post (qz_tf S N (N + 1) 0 (-1) 0) (fc, fo, fe, cp', op', a1, a2, a3, a4, a5, a6, a7, a8)) :
    wpX_top post (fc, fo, fe, cp, op, a1, a2, a3, a4, a5, a6, a7, a8) (nI f) (nI w) (nI N) := by
  unfold wpX_top
  refine br_f (nI_pos (by omega)) (br_f (nI_nlt (a := 2) (by omega) (by omega)) (br_f (nI_pos (by omega)) (qz_Isel hf hft hI hP (fun cp' op' hs => br_f (by decide) ⟨N + 2, ?_⟩))))
  exact qz_t32 hN (fun v hv post' h => qz_sumOf hw hv hI hs (by rw [hS v hv]; exact h)) (N + 1) 0 (-1) 0 (by omega) (by omega) (hp cp' op')
theorem qz_topBad {post : Int32 → St2 → Prop} {x : Int32} (hp : post (-1) (fc, fo, fe, cp, op, a1, a2, a3, a4, a5, a6, a7, a8)) :
    wpX_top post (fc, fo, fe, cp, op, a1, a2, a3, a4, a5, a6, a7, a8) x 3 0 :=
  br_f (by decide) (br_t (by decide) hp)
/-! keys and counts alone -/
def qz_ad (cn : Nat → Nat) : Nat → Nat
  | 0 => 0
  | i + 1 => qz_ad cn i + cn i
theorem qz_adS (cn : Nat → Nat) (c : Nat) : ∀ o, qz_ad cn (c + o) = qz_ad cn c + qz_ad (fun j => cn (c + j)) o
  | 0 => rfl
  | o + 1 => by
    show qz_ad cn (c + o) + cn (c + o) = qz_ad cn c + (qz_ad (fun j => cn (c + j)) o + cn (c + o))
    rw [qz_adS cn c o, Nat.add_assoc]
def qz_J (c o : Nat) (kf cn : Nat → Nat) (fc fo fe : Int32) (a1 a2 : Nat → Int32) : Prop :=
  c ≤ 40 ∧ o ≤ 40 ∧ fc = nI c ∧ fo = nI o ∧ fe = nI 17 ∧ (∀ e, e < c + o → a1 (qz_rw c e) = nI (kf e) ∧ kf e < 256 ∧ kf e % 16 = 5 ∧ a2 (qz_rw c e) = nI (cn e) ∧ cn e ≤ 17) ∧ qz_ad cn (c + o) = 17
theorem qz_upS {g : Nat → Int32} {k : Nat} {x : Int32} (h : x = g k) : upd g k x = g := by
  funext j
  by_cases e : j = k
  · rw [e, pk_us, h]
  · rw [pk_un e]
theorem qz_keep {post : Int32 → St2 → Prop} {x1 x2 : Int32} {b m hr : Nat} {kf cn : Nat → Nat} (hx1 : x1 = nI b) (hx2 : x2 = nI m) (hb : b + m ≤ 80) (hh : hr < 16) (h : ∀ i, i < m → a1 (b + i) = nI (kf i) ∧ kf i < 256 ∧ kf i % 16 ≠ hr ∧ a2 (b + i) = nI (cn i) ∧ cn i ≤ 17)
    (hp : ∀ b3 b4 b5 : Nat → Int32, post (nI m) (fc, fo, fe, cp, op, a1, a2, b3, b4, b5, a6, a7, a8)) :
    wpX_keepOthers post (fc, fo, fe, cp, op, a1, a2, a3, a4, a5, a6, a7, a8) x1 x2 (nI hr) := by
  subst hx1 hx2
  refine pk_loop (fun n i (s : (Nat → Int32) × (Nat → Int32) × (Nat → Int32)) => wX_keepOthers_6 post (nI b) (nI m) (nI hr) fc fo cp op n (nI i) (nI (b + i)) fe a1 a2 s.1 s.2.1 s.2.2 a6 a7 a8) (fun _ _ => True) m 0 (a3, a4, a5) (by omega) trivial
    (fun n s _ => pk_le (b + m) (b + m) (fun _ => hp _ _ _) (fun z => absurd z (by omega)) (hx := nI_add b m)) (fun n i s hi _ hw => ?_)
  obtain ⟨k1, k2, k3, k4, k5⟩ := h i hi
  have cl : (nI (b + i)).toNatClampNeg = b + i := nI_clamp (by omega)
  have ib : vp_in (nI (b + i)) 80 := pk_in (b + i) 80 (by omega)
  refine pk_le (b + m) (b + i) (fun z => absurd z (by omega)) (fun _ => ⟨ib, qz_hour (k := kf i) (by rw [cl]; exact k1) (by omega) (pk_eq (kf i % 16) hr (fun z => absurd z k3) (fun _ => nm_r (nI_add b i) ⟨ib, ib, nm_r (e' := a1) ?_ ⟨ib, ib, nm_r (e' := a2) ?_ ⟨ib, ib, nm_e ⟨ib, ib, nm_e ⟨ib, ib, nm_e (nm_r (nI_1 i) (nm_r (nI_1 (b + i)) (hw (_, _, _) trivial)))⟩⟩⟩⟩⟩))⟩) (hx := nI_add b m)
  · rw [cl]
    refine qz_upS ?_
    rw [k1, vp_nar_short, qz_vs (by omega)]
  · rw [cl]
    refine qz_upS ?_
    rw [k4, vp_nar_short, qz_vs (by omega)]
theorem qz_drop {post : Int32 → St2 → Prop} {x1 x2 : Int32} {b m hr E : Nat} {kf cn : Nat → Nat} (hx1 : x1 = nI b) (hx2 : x2 = nI m) (hb : b + m ≤ 80) (hh : hr < 16) (hE : ∀ i, i ≤ m → qz_ad cn i ≤ E) (hE2 : E < 1000) (hfe : fe = nI E) (h : ∀ i, i < m → a1 (b + i) = nI (kf i) ∧ kf i < 256 ∧ kf i % 16 = hr ∧ a2 (b + i) = nI (cn i))
    (hp : post 0 (fc, fo, nI (E - qz_ad cn m), cp, op, a1, a2, a3, a4, a5, a6, a7, a8)) :
    wpX_keepOthers post (fc, fo, fe, cp, op, a1, a2, a3, a4, a5, a6, a7, a8) x1 x2 (nI hr) := by
  subst hx1 hx2 hfe
  refine pk_loop (σ := Unit) (fun n i _ => wX_keepOthers_6 post (nI b) (nI m) (nI hr) fc fo cp op n 0 (nI (b + i)) (nI (E - qz_ad cn i)) a1 a2 a3 a4 a5 a6 a7 a8) (fun _ _ => True) m 0 () (by omega) trivial
    (fun n s _ => pk_le (b + m) (b + m) (fun _ => hp) (fun z => absurd z (by omega)) (hx := nI_add b m)) (fun n i s hi _ hw => ?_)
  obtain ⟨k1, k2, k3, k4⟩ := h i hi
  have cl : (nI (b + i)).toNatClampNeg = b + i := nI_clamp (by omega)
  have ib : vp_in (nI (b + i)) 80 := pk_in (b + i) 80 (by omega)
  have q1 : qz_ad cn (i + 1) = qz_ad cn i + cn i := rfl
  have q2 := hE (i + 1) (by omega)
  refine pk_le (b + m) (b + i) (fun z => absurd z (by omega)) (fun _ => ⟨ib, qz_hour (k := kf i) (by rw [cl]; exact k1) (by omega) (pk_eq (kf i % 16) hr (fun _ => ⟨ib, nm_r (e' := nI (E - qz_ad cn (i + 1))) ?_ (nm_r (nI_1 (b + i)) (hw () trivial))⟩) (fun z => absurd k3 z))⟩) (hx := nI_add b m)
  rw [cl, k4, pk_sub (by omega)]
  congr 1
  omega
theorem qz_forget4 {post : Int32 → St2 → Prop} {kf cn : Nat → Nat} (hJ : qz_J c o kf cn fc fo fe a1 a2)
    (hp : ∀ (b3 b4 b5 : Nat → Int32) (b6 b7 b8 : Nat → Int64), post (nI 0) (fc, fo, fe, cp, op, a1, a2, b3, b4, b5, b6, b7, b8)) :
    wpX_forget post (fc, fo, fe, cp, op, a1, a2, a3, a4, a5, a6, a7, a8) (nI 4) := by
  obtain ⟨hc, ho, hfc, hfo, hfe, hR, hA⟩ := hJ
  unfold wpX_forget
  refine br_f (by decide) (br_t (by decide) (qz_keep (b := 0) (m := c) (kf := kf) (cn := cn) rfl hfc (by omega) (by omega) (fun i hi => ?_) (fun b3 b4 b5 => ?_)))
  · obtain ⟨k1, k2, k3, k4, k5⟩ := hR i (by omega)
    rw [qz_rwL hi] at k1 k4
    rw [Nat.zero_add]
    exact ⟨k1, k2, by omega, k4, k5⟩
  · refine qz_keep (b := 40) (m := o) (kf := fun j => kf (c + j)) (cn := fun j => cn (c + j)) rfl hfo (by omega) (by omega) (fun i hi => ?_) (fun b3 b4 b5 => ?_)
    · obtain ⟨k1, k2, k3, k4, k5⟩ := hR (c + i) (by omega)
      rw [qz_rwH] at k1 k4
      exact ⟨k1, k2, by omega, k4, k5⟩
    · refine qz_index (c := c) (kf := kf) hc rfl (fun r hr => ?_) (fun b6 b7 b8 hb => ?_)
      · obtain ⟨k1, k2, k3, k4, k5⟩ := hR r (by omega)
        rw [qz_rwL hr] at k1
        exact ⟨k1, k2⟩
      · show post (fe - fe) _
        rw [Int32.sub_self, ← hfc, ← hfo]
        exact hp _ _ _ _ _ _
theorem qz_adL (cn : Nat → Nat) (m : Nat) : ∀ i, i ≤ m → qz_ad cn i ≤ qz_ad cn m := by
  intro i hi
  obtain ⟨j, rfl⟩ : ∃ j, m = i + j := ⟨m - i, by omega⟩
  rw [qz_adS]
  omega
theorem qz_forget5 {post : Int32 → St2 → Prop} {kf cn : Nat → Nat} (hJ : qz_J c o kf cn fc fo fe a1 a2)
    (hp : ∀ (fc' fo' fe' : Int32) (b1 b2 b3 b4 b5 : Nat → Int32) (b6 b7 b8 : Nat → Int64), qz_I V 0 0 fc' fo' fe' b1 b2 b3 b4 b5 b6 b7 b8 → post (nI 17) (fc', fo', fe', cp, op, b1, b2, b3, b4, b5, b6, b7, b8)) :
    wpX_forget post (fc, fo, fe, cp, op, a1, a2, a3, a4, a5, a6, a7, a8) (nI 5) := by
  obtain ⟨hc, ho, hfc, hfo, hfe, hR, hA⟩ := hJ
  have sp := qz_adS cn c o
  rw [hA] at sp
  unfold wpX_forget
  refine br_f (by decide) (br_t (by decide) (qz_drop (b := 0) (m := c) (E := 17) (kf := kf) (cn := cn) rfl hfc (by omega) (by omega) (fun i hi => ?_) (by omega) hfe (fun i hi => ?_) ?_))
  · have := qz_adL cn c i hi
    omega
  · obtain ⟨k1, k2, k3, k4, k5⟩ := hR i (by omega)
    rw [qz_rwL hi] at k1 k4
    rw [Nat.zero_add]
    exact ⟨k1, k2, k3, k4⟩
  · refine qz_drop (b := 40) (m := o) (E := 17 - qz_ad cn c) (kf := fun j => kf (c + j)) (cn := fun j => cn (c + j)) rfl hfo (by omega) (by omega) (fun i hi => ?_) (by omega) rfl (fun i hi => ?_) ?_
    · have := qz_adL (fun j => cn (c + j)) o i hi
      omega
    · obtain ⟨k1, k2, k3, k4, k5⟩ := hR (c + i) (by omega)
      rw [qz_rwH] at k1 k4
      exact ⟨k1, k2, k3, k4⟩
    · refine qz_index (c := 0) (kf := qz_K) (by omega) rfl (fun r hr => absurd hr (by omega)) (fun b6 b7 b8 hb => ?_)
      have e0 : 17 - qz_ad cn c - qz_ad (fun j => cn (c + j)) o = 0 := by omega
      show post (fe - nI (17 - qz_ad cn c - qz_ad (fun j => cn (c + j)) o)) _
      rw [e0, hfe, pk_sub (by omega)]
      exact hp _ _ _ _ _ _ _ _ _ _ _ ⟨by omega, rfl, rfl, rfl, fun e he => absurd he (by omega), hb⟩
/-! the last take -/
def qz_k17 (e : Nat) : Nat := if e = 16 then 245 else qz_K e
def qz_n2 (e : Nat) : Nat := if e = 15 then 2 else 1
theorem qz_more {post : Int32 → St2 → Prop} (hI : qz_I V c o fc fo fe a1 a2 a3 a4 a5 a6 a7 a8) (h16 : c + o = 16)
    (hp : ∀ (c' o' : Nat) (kf cn : Nat → Nat) (fo' fe' : Int32) (b1 b2 b3 b4 b5 : Nat → Int32), qz_J c' o' kf cn fc fo' fe' b1 b2 → post (nI 2) (fc, fo', fe', cp, op, b1, b2, b3, b4, b5, a6, a7, a8)) :
    wpX_take post (fc, fo, fe, cp, op, a1, a2, a3, a4, a5, a6, a7, a8) 23 3 3 9 := by
  obtain ⟨hN, hfc, hfo, hfe, hR, hX⟩ := hI
  have m1 : ¬ (0 : Int32) ≤ -1 := by decide
  have key : (23 : Int32) / 4 + 16 * 3 + 64 * 3 = nI (qz_K 15) := by decide
  have s9 : qz_sml 9 := ⟨by decide, by decide⟩
  have h400 : ¬ (400 : Int32) ≤ fe := by rw [hfe]; exact nI_ge (b := 400) (by omega) (by omega)
  have hfe1 : fe + 1 = nI 17 := by rw [hfe, h16]; rfl
  refine br_f (by decide) (br_f (by decide) (br_f (by decide) (br_f (by decide) (br_f (by decide) (br_f (by decide) (br_f (by decide) (br_t (by decide) ⟨by decide, nm_r key ?_⟩)))))))
  by_cases q : c = 16
  · have q0 : o = 0 := by omega
    subst q q0
    refine qz_closedYes (r := 15) (by omega) hfc (by omega) (fun i hi => ?_) ?_ (qz_openNo (o := 0) (by omega) hfo (fun j hj => absurd hj (by omega)) (br_t (by decide) ?_))
    · have r1 := (hR i (by omega)).1
      rw [qz_rwL (by omega)] at r1
      rw [r1]
      exact qz_Kne (by omega) (by omega) (by omega)
    · have r1 := (hR 15 (by omega)).1
      rw [qz_rwL (by omega)] at r1
      exact r1
    · unfold wX_take_89
      refine br_f h400 (br_t rfl (br_f m1 (nm_r (e' := nI 40) (by rw [hfo]; rfl) (qz_start (r := 40) rfl rfl (by omega) (by decide) (nm_r (e' := nI 1) (by rw [hfo]; rfl) ?_)))))
      refine qz_151 (n := 0) (by omega) (by omega) (by rw [pk_us]; rfl) s9 (fun b4 b5 hb h4 h5 => Or.inr ⟨15, by omega, rfl, ?_⟩)
      have v15 := (hR 15 (by omega)).2.1
      rw [qz_rwL (by omega)] at v15
      have v2 : nI (0 + 1) + upd (upd a2 40 0) 40 (nI (0 + 1)) 15 = nI 2 := by
        rw [pk_un (by decide), pk_un (by decide), v15]
        rfl
      rw [v2]
      refine hp 16 1 qz_k17 (fun _ => 1) _ _ _ _ _ _ _ ⟨by omega, by omega, hfc, rfl, hfe1, fun e he => ?_, by decide⟩
      by_cases g : e = 16
      · subst g
        exact ⟨pk_us, by decide, by decide, pk_us, (by decide : 1 ≤ 17)⟩
      · obtain ⟨g1, g2, _⟩ := hR e (by omega)
        have ne : qz_rw 16 e ≠ 40 := by rw [qz_rwL (by omega)]; omega
        have ek : qz_k17 e = qz_K e := if_neg g
        rw [ek]
        exact ⟨(pk_un ne).trans g1, qz_K256 e (by omega), qz_K5 e (by omega), (pk_un ne).trans ((pk_un ne).trans g2), (by decide : 1 ≤ 17)⟩
  · obtain ⟨j, hj⟩ : ∃ j, o = j + 1 := ⟨o - 1, by omega⟩
    have e15 : c + j = 15 := by omega
    refine qz_closedNo (c := c) (by omega) hfc (fun i hi => ?_) (qz_openYes (o := o) (q := j) (by omega) hfo (by omega) (fun i hi => ?_) ?_ (br_f m1 (br_t (nI_pos' (by omega)) ?_)))
    · have r1 := (hR i (by omega)).1
      rw [qz_rwL hi] at r1
      rw [r1]
      exact qz_Kne (by omega) (by omega) (by omega)
    · have r1 := (hR (c + i) (by omega)).1
      rw [qz_rwH] at r1
      rw [r1]
      exact qz_Kne (by omega) (by omega) (by omega)
    · have r1 := (hR (c + j) (by omega)).1
      rw [qz_rwH, e15] at r1
      exact r1
    · unfold wX_take_89
      refine br_f h400 (br_t rfl (br_t (nI_pos' (by omega)) ?_))
      have r2 := (hR (c + j) (by omega)).2.1
      rw [qz_rwH] at r2
      refine qz_151 (n := 1) (by omega) (by omega) r2 s9 (fun b4 b5 hb h4 h5 => Or.inl ⟨m1, ?_⟩)
      refine hp c o qz_K qz_n2 _ _ _ _ _ _ _ ⟨by omega, by omega, hfc, hfo, hfe1, fun e he => ?_, by rw [h16]; decide⟩
      obtain ⟨g1, g2, _⟩ := hR e (by omega)
      refine ⟨g1, qz_K256 e (by omega), qz_K5 e (by omega), ?_, ?_⟩
      · by_cases g : e = 15
        · have er : qz_rw c e = 40 + j := by rw [g, ← e15, qz_rwH]
          rw [er, pk_us, g]
          rfl
        · have ne : qz_rw c e ≠ 40 + j := fun z => g ((qz_rwI (c := c) (by omega) (z.trans qz_rwH.symm)).trans e15)
          rw [pk_un ne, g2]
          exact congrArg nI (if_neg g).symm
      · unfold qz_n2
        split <;> omega
end
end
section
/-! the plain law: no program in sight -/
def qz_X (s e : Nat) : Bool := qz_tb s (e / 4) && qz_tb s (4 + e % 4)
def qz_Y (s e : Nat) : Bool := qz_tb s (e / 4) || qz_tb s (4 + e % 4)
def qz_ll (P : Nat → Bool) (V : Nat → Int32) : Nat → Int32
  | 0 => 1000
  | e + 1 => if P e then (if qz_ll P V e ≤ V e then qz_ll P V e else V e) else qz_ll P V e
theorem qz_P0 : ∀ s, s < 256 → ∀ e, e < 16 → qz_pz (s + 87040) (qz_K e) = qz_X s e := by decide +kernel
theorem qz_P1 : ∀ s, s < 256 → ∀ e, e < 16 → qz_pz (s + 87040 + 256) (qz_K e) = qz_Y s e := by decide +kernel
theorem qz_P2 : ∀ s, s < 256 → ∀ e, e < 16 → qz_pz (s + 87040 + 512) (qz_K e) = !qz_X s e := by decide +kernel
theorem qz_P3 : ∀ s, s < 256 → ∀ e, e < 16 → qz_pz (s + 87040 + 768) (qz_K e) = !qz_Y s e := by decide +kernel
theorem qz_P4 : ∀ s, s < 256 → ∀ e, e < 16 → qz_pz (s + 6144 + 147456) (qz_K e) = false := by decide +kernel
theorem qz_P5 : ∀ e, e < 16 → qz_pz 87295 (qz_K e) = true := by decide +kernel
theorem qz_ctN (P : Nat → Bool) : ∀ N, qz_ct (fun e => !P e) N + qz_ct P N = N := by
  intro N
  induction N with
  | zero => rfl
  | succ N ih =>
    cases h : P N with
    | true =>
      have t1 : qz_ct P (N + 1) = qz_ct P N + 1 := qz_ifT h
      have t2 : qz_ct (fun e => !P e) (N + 1) = qz_ct (fun e => !P e) N := qz_ifF (by show (!P N) = false; rw [h]; rfl)
      omega
    | false =>
      have t1 : qz_ct P (N + 1) = qz_ct P N := qz_ifF h
      have t2 : qz_ct (fun e => !P e) (N + 1) = qz_ct (fun e => !P e) N + 1 := qz_ifT (by show (!P N) = true; rw [h]; rfl)
      omega
theorem qz_ct0 : ∀ N, qz_ct (fun _ => false) N = 0 := by
  intro N
  induction N with
  | zero => rfl
  | succ N ih => exact ih
/-- the component's least and the law's least -/
theorem qz_lsll {P : Nat → Bool} {V : Nat → Int32} (hV : ∀ e, e < 16 → qz_sml (V e)) : ∀ N, N ≤ 16 → (qz_ct P N = 0 → qz_ls P V N = -1000000 ∧ qz_ll P V N = 1000) ∧ (qz_ct P N ≠ 0 → qz_ls P V N = qz_ll P V N ∧ qz_sml (qz_ll P V N)) := by
  intro N
  induction N with
  | zero => exact fun _ => ⟨fun _ => ⟨rfl, rfl⟩, fun h => absurd rfl h⟩
  | succ N ih =>
    intro hN
    have ih' := ih (by omega)
    have v := hV N (by omega)
    cases h : P N with
    | false =>
      have t1 : qz_ct P (N + 1) = qz_ct P N := qz_ifF h
      have t2 : qz_ls P V (N + 1) = qz_ls P V N := qz_ifF h
      have t3 : qz_ll P V (N + 1) = qz_ll P V N := qz_ifF h
      rw [t1, t2, t3]
      exact ih'
    | true =>
      have t1 : qz_ct P (N + 1) = qz_ct P N + 1 := qz_ifT h
      have t2 : qz_ls P V (N + 1) = if qz_ls P V N = -1000000 then V N else if qz_ls P V N ≤ V N then qz_ls P V N else V N := qz_ifT h
      have t3 : qz_ll P V (N + 1) = if qz_ll P V N ≤ V N then qz_ll P V N else V N := qz_ifT h
      refine ⟨fun z => absurd z (by omega), fun _ => ?_⟩
      by_cases g : qz_ct P N = 0
      · obtain ⟨g1, g2⟩ := ih'.1 g
        have k : ¬ (1000 : Int32) ≤ V N := Int32.not_le.mpr (Int32.lt_trans v.2 (by decide))
        rw [t2, t3, g1, g2, if_pos rfl, if_neg k]
        exact ⟨rfl, v⟩
      · obtain ⟨g1, g2⟩ := ih'.2 g
        have k : ¬ qz_ll P V N = -1000000 := fun z => by
          rw [z] at g2
          exact absurd g2.1 (by decide)
        rw [t2, t3, g1, if_neg k]
        refine ⟨rfl, ?_⟩
        split
        · exact g2
        · exact v
/-! a and b -/
def qz_A (i : Nat) : Int32 := nI i - 8
def qz_S1 (a b : Int32) (v : Nat) : Int32 := if v < 4 then 4 * a * nI v + 6 * b else -1000000
def qz_S0 (a b : Int32) (v : Nat) : Int32 := if v = 5 then 24 * a + 24 * b else -1000000
theorem qz_dV : ∀ i, i < 17 → ∀ j, j < 17 → ∀ e, e < 16 → -100 < qz_V (qz_A i) (qz_A j) e ∧ qz_V (qz_A i) (qz_A j) e < 100 := by decide +kernel
theorem qz_dS1 : ∀ i, i < 17 → ∀ j, j < 17 → ∀ v, v < 16 → qz_S (fun _ => true) (qz_V (qz_A i) (qz_A j)) 1 v 16 = qz_S1 (qz_A i) (qz_A j) v := by decide +kernel
theorem qz_dS0 : ∀ i, i < 17 → ∀ j, j < 17 → ∀ v, v < 16 → qz_S (fun _ => true) (qz_V (qz_A i) (qz_A j)) 0 v 16 = qz_S0 (qz_A i) (qz_A j) v := by decide +kernel
theorem qz_dS2 : ∀ i, i < 17 → ∀ j, j < 17 → qz_S (fun _ => true) (qz_V (qz_A i) (qz_A j)) 2 2 16 = 6 * qz_A i + 8 * qz_A j := by decide +kernel
theorem qz_dG : ∀ i, i < 17 → ∀ j, j < 17 → qz_gr (fun _ => true) (qz_V (qz_A i) (qz_A j)) 16 = (if qz_A i ≤ 0 then 0 else 3 * qz_A i) + (if qz_A j ≤ 0 then 0 else 3 * qz_A j) := by decide +kernel
theorem qz_dT1 : ∀ i, i < 17 → ∀ j, j < 17 → qz_tf (qz_S1 (qz_A i) (qz_A j)) 0 1 0 (-1) 0 = (if qz_A i < 0 then 0 else if qz_A i = 0 then 0 else 3) := by decide +kernel
theorem qz_dT4 : ∀ i, i < 17 → ∀ j, j < 17 → qz_tf (qz_S1 (qz_A i) (qz_A j)) 4 5 0 (-1) 0 = -1 := by decide +kernel
theorem qz_dT0 : ∀ i, i < 17 → ∀ j, j < 17 → qz_tf (qz_S0 (qz_A i) (qz_A j)) 0 1 0 (-1) 0 = 5 := by decide +kernel
end
section
/-! the law behind its loops -/
section
variable {fc fo fe : Int32} {cp op : Int64} {a1 a2 a3 a4 a5 : Nat → Int32} {a6 a7 a8 : Nat → Int64} {c o : Nat} {post : Int32 → St0 → Prop} {mc ms kc ks : Nat}
theorem qz_L668 {V : Nat → Int32} (hp : post 1 ()) (hI : qz_I V c o fc fo fe a1 a2 a3 a4 a5 a6 a7 a8) (h16 : c + o = 16) :
    wL_lawOf_668 post mc ms (nI 87295) 1 kc ks fc fo fe cp op a1 a2 a3 a4 a5 a6 a7 a8 := by
  unfold wL_lawOf_668
  refine qz_more hI h16 (fun c' o' kf cn fo' fe' b1 b2 b3 b4 b5 hJ => ?_)
  refine qz_forget4 hJ (fun d3 d4 d5 d6 d7 d8 => ?_)
  refine qz_forget5 (V := V) hJ (fun fc2 fo2 fe2 e1 e2 e3 e4 e5 e6 e7 e8 hI2 => ?_)
  refine br_f (by decide) (br_t rfl (br_t rfl (br_t rfl ?_)))
  refine br_t hI2.2.2.2.1 ?_
  refine qz_Isorts hI2 (br_t rfl ?_)
  refine qz_least (P := fun _ => true) (f := 87295) (by decide) (by decide) hI2 (fun e he => absurd he (by omega)) (fun cp' op' => br_t rfl ?_)
  exact br_f (by decide) (br_f (by decide) (br_t rfl hp))
variable {i j : Nat}
theorem qz_L529 (hi : i < 17) (hj : j < 17) (hp : post 1 ()) (hI : qz_I (qz_V (qz_A i) (qz_A j)) c o fc fo fe a1 a2 a3 a4 a5 a6 a7 a8) (h16 : c + o = 16) :
    wL_lawOf_529 post mc ms (qz_A i) (qz_A j) 1 (nI 87295) (if qz_A i < 0 then 0 else if qz_A i = 0 then 0 else 3) kc ks fc fo fe cp op a1 a2 a3 a4 a5 a6 a7 a8 := by
  have hP : ∀ e, e < c + o → qz_pz 87295 (qz_K e) = (fun _ => true) e := fun e he => qz_P5 e (by omega)
  have hf : 87295 < 262144 := by decide
  have hft : 87295 / 1024 % 16 ≤ 87295 / 16384 := by decide
  unfold wL_lawOf_529
  refine br_f (by decide) (qz_top (P := fun _ => true) (w := 1) (N := 0) (S := qz_S1 (qz_A i) (qz_A j)) (by decide) (by decide) hf hft hI hP (fun v hv => by rw [h16]; exact qz_dS1 i hi j hj v hv) (fun cp' op' => br_t (qz_dT1 i hi j hj) ?_))
  refine qz_top (P := fun _ => true) (w := 1) (N := 4) (S := qz_S1 (qz_A i) (qz_A j)) (by decide) (by decide) hf hft hI hP (fun v hv => by rw [h16]; exact qz_dS1 i hi j hj v hv) (fun cp' op' => br_t (qz_dT4 i hi j hj) ?_)
  refine qz_top (P := fun _ => true) (w := 0) (N := 0) (S := qz_S0 (qz_A i) (qz_A j)) (by decide) (by decide) hf hft hI hP (fun v hv => by rw [h16]; exact qz_dS0 i hi j hj v hv) (fun cp' op' => br_t (qz_dT0 i hi j hj) ?_)
  refine qz_topBad (br_t rfl ?_)
  refine qz_sumFor (P := fun _ => true) (w := 2) (v := 2) (by decide) (by decide) hf hft hI hP (fun cp' op' => br_t (by rw [h16]; exact qz_dS2 i hi j hj) ?_)
  refine qz_sumFor (P := fun _ => true) (w := 0) (v := 4) (by decide) (by decide) hf hft hI hP (fun cp' op' => br_t (by rw [h16]; exact qz_dS0 i hi j hj 4 (by decide)) ?_)
  refine qz_greatest (P := fun _ => true) hf hft hI hP (fun cp' op' => ?_)
  have G := qz_dG i hi j hj
  rw [h16, G]
  have fin : ∀ z0 z1 : Int32, z0 = (if qz_A i ≤ 0 then 0 else 3 * qz_A i) → z1 = (if qz_A j ≤ 0 then 0 else 3 * qz_A j) →
      wL_lawOf_659 post mc ms (nI 87295) z1 z0 ((if qz_A i ≤ 0 then 0 else 3 * qz_A i) + (if qz_A j ≤ 0 then 0 else 3 * qz_A j)) kc ks fc fo fe cp' op' a1 a2 a3 a4 a5 a6 a7 a8 := by
    intro z0 z1 e0 e1
    rw [← e0, ← e1]
    exact br_t rfl (qz_L668 hp hI h16)
  exact br_c (fun g => br_c (fun g2 => fin _ _ (if_pos g).symm (if_pos g2).symm) (fun g2 => fin _ _ (if_pos g).symm (if_neg g2).symm)) (fun g => br_c (fun g2 => fin _ _ (if_neg g).symm (if_pos g2).symm) (fun g2 => fin _ _ (if_neg g).symm (if_neg g2).symm))
theorem qz_L500 (hi : i < 17) (hj : j < 17) (hp : post 1 ()) (hI : qz_I (qz_V (qz_A i) (qz_A j)) c o fc fo fe a1 a2 a3 a4 a5 a6 a7 a8) (h16 : c + o = 16) :
    wL_lawOf_500 post mc ms (qz_A i) (qz_A j) 87040 1 kc ks fc fo fe cp op a1 a2 a3 a4 a5 a6 a7 a8 := by
  unfold wL_lawOf_500
  have t := qz_L529 (mc := mc) (ms := ms) (kc := kc) (ks := ks) (cp := cp) (op := op) hi hj hp hI h16
  refine nm_r (e' := nI 87295) (by decide) (br_c (fun g => ?_) (fun g => br_c (fun g2 => ?_) (fun g2 => ?_)))
  · rw [if_pos g] at t
    exact t
  · rw [if_neg g, if_pos g2] at t
    exact t
  · rw [if_neg g, if_neg g2] at t
    exact t
variable {s : Nat}
theorem qz_L449 {z0 z1 : Int32} (hi : i < 17) (hj : j < 17) (hs : s < 256) (hp : post 1 ()) (hI : qz_I (qz_V (qz_A i) (qz_A j)) c o fc fo fe a1 a2 a3 a4 a5 a6 a7 a8) (h16 : c + o = 16) (hz : z1 = z0) :
    wL_lawOf_449 post mc ms (nI s) (qz_A i) (qz_A j) (nI (qz_ct (qz_Y s) 16)) 87040 (nI (s + 87040)) z0 z1 kc ks fc fo fe cp op a1 a2 a3 a4 a5 a6 a7 a8 := by
  unfold wL_lawOf_449
  rw [show nI (s + 87040) + 256 = nI (s + 87040 + 256) from nI_add _ 256, show nI s + 6144 + 147456 = nI (s + 6144 + 147456) from by rw [show nI s + 6144 = nI (s + 6144) from nI_add _ 6144]; exact nI_add _ 147456]
  refine br_t hz (qz_sortsPassing (P := qz_Y s) (by omega) (by omega) hI (fun e he => qz_P1 s hs e (by omega)) (fun cp' op' => br_t (by rw [h16]) ?_))
  refine qz_gaps (f := s + 87040) (by omega) (by omega) hI (fun cp' op' => br_t rfl ?_)
  refine qz_count (P := fun _ => false) (by omega) (by omega) hI (fun e he => qz_P4 s hs e (by omega)) (fun cp' op' => br_t (by rw [qz_ct0]; rfl) ?_)
  exact qz_L500 hi hj hp hI h16
theorem qz_L411 (hi : i < 17) (hj : j < 17) (hs : s < 256) (hp : post 1 ()) (hI : qz_I (qz_V (qz_A i) (qz_A j)) c o fc fo fe a1 a2 a3 a4 a5 a6 a7 a8) (h16 : c + o = 16) :
    wL_lawOf_411 post mc ms (nI s) (qz_A i) (qz_A j) (nI (qz_ct (qz_X s) 16)) (nI (qz_ct (qz_Y s) 16)) (qz_sm (qz_X s) (qz_V (qz_A i) (qz_A j)) 16) (qz_ll (qz_X s) (qz_V (qz_A i) (qz_A j)) 16) 87040 (nI (s + 87040)) 1 kc ks fc fo fe cp op a1 a2 a3 a4 a5 a6 a7 a8 := by
  have hP : ∀ e, e < c + o → qz_pz (s + 87040) (qz_K e) = qz_X s e := fun e he => qz_P0 s hs e (by omega)
  have L := qz_lsll (P := qz_X s) (V := qz_V (qz_A i) (qz_A j)) (fun e he => qz_dV i hi j hj e he) 16 (by omega)
  have ctn := qz_ctN (qz_X s) 16
  unfold wL_lawOf_411
  refine br_f (by decide) (qz_sum (P := qz_X s) (by omega) (by omega) hI hP (fun cp' op' => br_t (by rw [h16]) ?_))
  refine qz_least (P := qz_X s) (by omega) (by omega) hI hP (fun cp' op' => ?_)
  refine pk_eq (qz_ct (qz_X s) 16) 0 (fun g => ?_) (fun g => ?_)
  · exact qz_L449 hi hj hs hp hI h16 (by rw [h16]; exact (L.1 g).1)
  · exact qz_L449 hi hj hs hp hI h16 (by rw [h16]; exact (L.2 g).1)
/-- the law's outer loop is through -/
theorem qz_L60x {n : Nat} {x3 : Int32} (hi : i < 17) (hj : j < 17) (hs : s < 256) (hp : post 1 ()) (hI : qz_I (qz_V (qz_A i) (qz_A j)) c o fc fo fe a1 a2 a3 a4 a5 a6 a7 a8) (h16 : c + o = 16) :
    wL_lawOf_60 post mc ms x3 (nI s) (qz_A i) (qz_A j) kc ks (n + 1) 1 (nI (qz_ct (qz_X s) 16)) (nI (qz_ct (qz_Y s) 16)) (qz_sm (qz_X s) (qz_V (qz_A i) (qz_A j)) 16) (qz_ll (qz_X s) (qz_V (qz_A i) (qz_A j)) 16) (nI 4) fc fo fe cp op a1 a2 a3 a4 a5 a6 a7 a8 := by
  have e1 : nI (s + 87040) + 256 = nI (s + 87040 + 256) := nI_add _ 256
  have e2 : nI (s + 87040) + 512 = nI (s + 87040 + 512) := nI_add _ 512
  have e3 : nI (s + 87040) + 768 = nI (s + 87040 + 768) := nI_add _ 768
  have cX := qz_ctN (qz_X s) 16
  have cY := qz_ctN (qz_Y s) 16
  refine pk_le 4 4 (fun _ => nm_r (e' := nI (s + 87040)) (nI_add s 87040) ?_) (fun z => absurd z (by omega))
  rw [e1, e2, e3]
  refine br_f (by decide) (br_t (by rw [hI.2.2.2.1, h16]; rfl) ?_)
  refine qz_Isorts hI (br_t (by rw [h16]; rfl) ?_)
  refine qz_count (P := qz_X s) (by omega) (by omega) hI (fun e he => qz_P0 s hs e (by omega)) (fun cp' op' => br_t (by rw [h16]) ?_)
  refine qz_count (P := qz_Y s) (by omega) (by omega) hI (fun e he => qz_P1 s hs e (by omega)) (fun cp' op' => br_t (by rw [h16]) ?_)
  refine qz_count (P := fun e => !qz_X s e) (by omega) (by omega) hI (fun e he => qz_P2 s hs e (by omega)) (fun cp' op' => br_t ?_ ?_)
  · rw [h16, show (16 : Int32) - nI (qz_ct (qz_X s) 16) = nI (16 - qz_ct (qz_X s) 16) from pk_sub (a := 16) (by omega)]
    exact congrArg nI (by omega)
  refine qz_count (P := fun e => !qz_Y s e) (by omega) (by omega) hI (fun e he => qz_P3 s hs e (by omega)) (fun cp' op' => br_t ?_ ?_)
  · rw [h16, show (16 : Int32) - nI (qz_ct (qz_Y s) 16) = nI (16 - qz_ct (qz_Y s) 16) from pk_sub (a := 16) (by omega)]
    exact congrArg nI (by omega)
  exact qz_L411 hi hj hs hp hI h16
end
end
section
/-! the law's two loops -/
theorem qz_tb1 {f v : Nat} (hf : f < 2 ^ 31) (hv : v < 32) : ((nI f >>> (nI v &&& 31)) &&& 1) = 1 ↔ qz_tb f v = true := by
  rw [qz_bit hf hv]
  have h2 : f / 2 ^ v % 2 < 2 := Nat.mod_lt _ (by decide)
  show nI (f / 2 ^ v % 2) = nI 1 ↔ _
  rw [nI_eq (by omega) (by omega)]
  unfold qz_tb
  rw [decide_eq_true_iff]
theorem qz_nt {x : Bool} (h : ¬ x = true) : x = false := by cases x <;> first | rfl | exact absurd rfl h
section
variable {fc fo fe : Int32} {cp op : Int64} {a1 a2 a3 a4 a5 : Nat → Int32} {a6 a7 a8 : Nat → Int64} {c o : Nat} {post : Int32 → St0 → Prop} {mc ms kc ks : Nat}
  {J60 J69 : Int32 → Int32 → Int32 → Int32 → Int32 → Int32 → Int32 → Int32 → Int32 → Int64 → Int64 → (Nat → Int32) → (Nat → Int32) → (Nat → Int32) → (Nat → Int32) → (Nat → Int32) → (Nat → Int64) → (Nat → Int64) → (Nat → Int64) → Prop}
theorem qz_L140 {x3 x5 x6 x7 x9 x10 x11 x12 x13 : Int32} {k : Nat} {x y : Bool}
    (hJ : J69 1 (if (x && y) = true then x9 + 1 else x9) (if (x || y) = true then x10 + 1 else x10) (if (x && y) = true then x11 + (x6 * x13 + x7 * nI k) else x11) (if (x && y) = true then (if x12 ≤ x6 * x13 + x7 * nI k then x12 else x6 * x13 + x7 * nI k) else x12) (nI (k + 1)) fc fo fe cp op a1 a2 a3 a4 a5 a6 a7 a8) :
    wL_lawOf_140 post mc ms J60 J69 x3 x5 x6 x7 1 x9 x10 x11 x12 x13 (nI k) (nI 1) (qz_i x) (qz_i y) kc ks fc fo fe cp op a1 a2 a3 a4 a5 a6 a7 a8 := by
  have d : ¬ (1 : Int32) = 0 := by decide
  cases x <;> cases y
  · have h : J69 1 x9 x10 x11 x12 (nI (k + 1)) fc fo fe cp op a1 a2 a3 a4 a5 a6 a7 a8 := hJ
    exact br_t rfl (br_t rfl (br_t rfl (br_t rfl (br_t rfl (br_f d (br_t rfl (nm_r (nI_1 k) h)))))))
  · have h : J69 1 x9 (x10 + 1) x11 x12 (nI (k + 1)) fc fo fe cp op a1 a2 a3 a4 a5 a6 a7 a8 := hJ
    exact br_t rfl (br_t rfl (br_f d (br_t rfl (br_t rfl (br_f d (br_t rfl (nm_r (nI_1 k) h)))))))
  · have h : J69 1 x9 (x10 + 1) x11 x12 (nI (k + 1)) fc fo fe cp op a1 a2 a3 a4 a5 a6 a7 a8 := hJ
    exact br_f d (br_t rfl (br_f d (br_f d (br_t rfl (br_f d (br_t rfl (br_f d (br_t rfl (nm_r (nI_1 k) h)))))))))
  · have h : J69 1 (x9 + 1) (x10 + 1) (x11 + (x6 * x13 + x7 * nI k)) (if x12 ≤ x6 * x13 + x7 * nI k then x12 else x6 * x13 + x7 * nI k) (nI (k + 1)) fc fo fe cp op a1 a2 a3 a4 a5 a6 a7 a8 := hJ
    rw [← Int32.add_assoc] at h
    refine br_f d (br_f d (br_f d (br_f d (br_f d (br_f d (br_f d (br_c (fun g => br_f d (br_t rfl (nm_r (nI_1 k) ?_))) (fun g => br_f d (br_t rfl (nm_r (nI_1 k) ?_)))))))))) 
    · rw [if_pos g] at h
      exact h
    · rw [if_neg g] at h
      exact h
theorem qz_L120 {x3 x6 x7 x9 x10 x11 x12 x13 : Int32} {s k : Nat} {x : Bool} (hs : s < 256) (hk : k < 4)
    (hJ : ∀ y : Bool, y = qz_tb s (4 + k) → J69 1 (if (x && y) = true then x9 + 1 else x9) (if (x || y) = true then x10 + 1 else x10) (if (x && y) = true then x11 + (x6 * x13 + x7 * nI k) else x11) (if (x && y) = true then (if x12 ≤ x6 * x13 + x7 * nI k then x12 else x6 * x13 + x7 * nI k) else x12) (nI (k + 1)) fc fo fe cp op a1 a2 a3 a4 a5 a6 a7 a8) :
    wL_lawOf_120 post mc ms J60 J69 x3 (nI s) x6 x7 1 x9 x10 x11 x12 x13 (nI k) (nI 1) (qz_i x) kc ks fc fo fe cp op a1 a2 a3 a4 a5 a6 a7 a8 := by
  unfold wL_lawOf_120
  rw [show 4 + nI k = nI (4 + k) from nI_add 4 k]
  exact ek_if (qz_tb1 (by omega) (by omega)) (fun g => qz_L140 (y := true) (hJ true g.symm)) (fun g => qz_L140 (y := false) (hJ false (qz_nt g).symm))
end
/-- the object's state holds N events -/
def qz_U (V : Nat → Int32) (N : Nat) (u : St2) : Prop :=
  ∃ c o, c + o = N ∧ qz_I V c o u.1 u.2.1 u.2.2.1 u.2.2.2.2.2.1 u.2.2.2.2.2.2.1 u.2.2.2.2.2.2.2.1 u.2.2.2.2.2.2.2.2.1 u.2.2.2.2.2.2.2.2.2.1 u.2.2.2.2.2.2.2.2.2.2.1 u.2.2.2.2.2.2.2.2.2.2.2.1 u.2.2.2.2.2.2.2.2.2.2.2.2
section
variable {post : Int32 → St0 → Prop} {mc ms kc ks : Nat} {i j s : Nat}
theorem qz_L69 {J60 : Int32 → Int32 → Int32 → Int32 → Int32 → Int32 → Int32 → Int32 → Int32 → Int64 → Int64 → (Nat → Int32) → (Nat → Int32) → (Nat → Int32) → (Nat → Int32) → (Nat → Int32) → (Nat → Int64) → (Nat → Int64) → (Nat → Int64) → Prop} {x3 : Int32} {p : Nat} {u : St2}
    (hi : i < 17) (hj : j < 17) (hs : s < 256) (hp4 : p < 4) (hU : qz_U (qz_V (qz_A i) (qz_A j)) (4 * p) u)
    (hJ : ∀ u' : St2, qz_U (qz_V (qz_A i) (qz_A j)) (4 * (p + 1)) u' → J60 1 (nI (qz_ct (qz_X s) (4 * (p + 1)))) (nI (qz_ct (qz_Y s) (4 * (p + 1)))) (qz_sm (qz_X s) (qz_V (qz_A i) (qz_A j)) (4 * (p + 1))) (qz_ll (qz_X s) (qz_V (qz_A i) (qz_A j)) (4 * (p + 1))) (nI (p + 1))
      u'.1 u'.2.1 u'.2.2.1 u'.2.2.2.1 u'.2.2.2.2.1 u'.2.2.2.2.2.1 u'.2.2.2.2.2.2.1 u'.2.2.2.2.2.2.2.1 u'.2.2.2.2.2.2.2.2.1 u'.2.2.2.2.2.2.2.2.2.1 u'.2.2.2.2.2.2.2.2.2.2.1 u'.2.2.2.2.2.2.2.2.2.2.2.1 u'.2.2.2.2.2.2.2.2.2.2.2.2) :
    ∃ n, wL_lawOf_69 post mc ms J60 x3 (nI s) (qz_A i) (qz_A j) (nI p) kc ks n 1 (nI (qz_ct (qz_X s) (4 * p))) (nI (qz_ct (qz_Y s) (4 * p))) (qz_sm (qz_X s) (qz_V (qz_A i) (qz_A j)) (4 * p)) (qz_ll (qz_X s) (qz_V (qz_A i) (qz_A j)) (4 * p)) 0
      u.1 u.2.1 u.2.2.1 u.2.2.2.1 u.2.2.2.2.1 u.2.2.2.2.2.1 u.2.2.2.2.2.2.1 u.2.2.2.2.2.2.2.1 u.2.2.2.2.2.2.2.2.1 u.2.2.2.2.2.2.2.2.2.1 u.2.2.2.2.2.2.2.2.2.2.1 u.2.2.2.2.2.2.2.2.2.2.2.1 u.2.2.2.2.2.2.2.2.2.2.2.2 := by
  refine pk_loop (fun n k (u : St2) => wL_lawOf_69 post mc ms J60 x3 (nI s) (qz_A i) (qz_A j) (nI p) kc ks n 1 (nI (qz_ct (qz_X s) (4 * p + k))) (nI (qz_ct (qz_Y s) (4 * p + k))) (qz_sm (qz_X s) (qz_V (qz_A i) (qz_A j)) (4 * p + k)) (qz_ll (qz_X s) (qz_V (qz_A i) (qz_A j)) (4 * p + k)) (nI k)
      u.1 u.2.1 u.2.2.1 u.2.2.2.1 u.2.2.2.2.1 u.2.2.2.2.2.1 u.2.2.2.2.2.2.1 u.2.2.2.2.2.2.2.1 u.2.2.2.2.2.2.2.2.1 u.2.2.2.2.2.2.2.2.2.1 u.2.2.2.2.2.2.2.2.2.2.1 u.2.2.2.2.2.2.2.2.2.2.2.1 u.2.2.2.2.2.2.2.2.2.2.2.2)
    (fun k u => qz_U (qz_V (qz_A i) (qz_A j)) (4 * p + k) u) 4 0 u (by omega) hU (fun n u h => ?_) (fun n k u hk h hw => ?_)
  · obtain ⟨fc, fo, fe, cp, op, a1, a2, a3, a4, a5, a6, a7, a8⟩ := u
    refine pk_le 4 4 (fun _ => br_c (fun g => ?_) (fun g => nm_r (nI_1 p) ?_)) (fun z => absurd z (by omega))
    · obtain ⟨c, o, hN, hI⟩ := h
      refine qz_seal (fun e he => qz_dV i hi j hj e he) hI (fun fc' fo' b1 b2 b3 b4 b5 b6 b7 b8 hI' => nm_r (nI_1 p) ?_)
      exact hJ (fc', fo', fe, cp, op, b1, b2, b3, b4, b5, b6, b7, b8) ⟨c + o, 0, by omega, hI'⟩
    · exact hJ (fc, fo, fe, cp, op, a1, a2, a3, a4, a5, a6, a7, a8) h
  · obtain ⟨fc, fo, fe, cp, op, a1, a2, a3, a4, a5, a6, a7, a8⟩ := u
    obtain ⟨c, o, hN, hI⟩ := h
    have hd : (4 * p + k) / 4 = p := by omega
    have hm : (4 * p + k) % 4 = k := by omega
    have eV : qz_V (qz_A i) (qz_A j) (4 * p + k) = qz_A i * nI p + qz_A j * nI k := by
      unfold qz_V
      rw [hd, hm]
    have eX : qz_X s (4 * p + k) = (qz_tb s p && qz_tb s (4 + k)) := by
      unfold qz_X
      rw [hd, hm]
    have eY : qz_Y s (4 * p + k) = (qz_tb s p || qz_tb s (4 + k)) := by
      unfold qz_Y
      rw [hd, hm]
    have v := qz_dV i hi j hj (4 * p + k) (by omega)
    have t0 : 20 + (nI p &&& 3) = nI (20 + p) := by
      rw [show (nI p &&& 3) = nI (p % 4) from pk_andN (by omega) (m := 3) 2 (by decide), Nat.mod_eq_of_lt hp4]
      exact nI_add 20 p
    refine pk_le 4 k (fun z => absurd z (by omega)) (fun _ => ?_)
    rw [t0, ← eV]
    refine qz_take hI hN hp4 hk v (by rw [hN]) (fun fo' fe' b1 b2 b3 b4 b5 hI' => ?_)
    have main : ∀ x : Bool, x = qz_tb s p → wL_lawOf_120 post mc ms J60 (wL_lawOf_69 post mc ms J60 x3 (nI s) (qz_A i) (qz_A j) (nI p) kc ks n) x3 (nI s) (qz_A i) (qz_A j) 1 (nI (qz_ct (qz_X s) (4 * p + k))) (nI (qz_ct (qz_Y s) (4 * p + k))) (qz_sm (qz_X s) (qz_V (qz_A i) (qz_A j)) (4 * p + k)) (qz_ll (qz_X s) (qz_V (qz_A i) (qz_A j)) (4 * p + k)) (nI p) (nI k) (nI 1) (qz_i x) kc ks fc fo' fe' cp op b1 b2 b3 b4 b5 a6 a7 a8 := by
      intro x hx
      refine qz_L120 hs hk (fun y hy => ?_)
      have w := hw (fc, fo', fe', cp, op, b1, b2, b3, b4, b5, a6, a7, a8) ⟨c, o + 1, by omega, hI'⟩
      have w' : wL_lawOf_69 post mc ms J60 x3 (nI s) (qz_A i) (qz_A j) (nI p) kc ks n 1 (nI (qz_ct (qz_X s) (4 * p + k + 1))) (nI (qz_ct (qz_Y s) (4 * p + k + 1))) (qz_sm (qz_X s) (qz_V (qz_A i) (qz_A j)) (4 * p + k + 1)) (qz_ll (qz_X s) (qz_V (qz_A i) (qz_A j)) (4 * p + k + 1)) (nI (k + 1)) fc fo' fe' cp op b1 b2 b3 b4 b5 a6 a7 a8 := w
      have eX' : qz_X s (4 * p + k) = (x && y) := by rw [eX, hx, hy]
      have eY' : qz_Y s (4 * p + k) = (x || y) := by rw [eY, hx, hy]
      have q1 : nI (qz_ct (qz_X s) (4 * p + k + 1)) = if (x && y) = true then nI (qz_ct (qz_X s) (4 * p + k)) + 1 else nI (qz_ct (qz_X s) (4 * p + k)) := by
        show nI (if qz_X s (4 * p + k) = true then qz_ct (qz_X s) (4 * p + k) + 1 else qz_ct (qz_X s) (4 * p + k)) = _
        rw [eX']
        split
        · exact (nI_1 _).symm
        · rfl
      have q2 : nI (qz_ct (qz_Y s) (4 * p + k + 1)) = if (x || y) = true then nI (qz_ct (qz_Y s) (4 * p + k)) + 1 else nI (qz_ct (qz_Y s) (4 * p + k)) := by
        show nI (if qz_Y s (4 * p + k) = true then qz_ct (qz_Y s) (4 * p + k) + 1 else qz_ct (qz_Y s) (4 * p + k)) = _
        rw [eY']
        split
        · exact (nI_1 _).symm
        · rfl
      have q3 : qz_sm (qz_X s) (qz_V (qz_A i) (qz_A j)) (4 * p + k + 1) = if (x && y) = true then qz_sm (qz_X s) (qz_V (qz_A i) (qz_A j)) (4 * p + k) + (qz_A i * nI p + qz_A j * nI k) else qz_sm (qz_X s) (qz_V (qz_A i) (qz_A j)) (4 * p + k) := by
        show (if qz_X s (4 * p + k) = true then qz_sm (qz_X s) (qz_V (qz_A i) (qz_A j)) (4 * p + k) + qz_V (qz_A i) (qz_A j) (4 * p + k) else qz_sm (qz_X s) (qz_V (qz_A i) (qz_A j)) (4 * p + k)) = _
        rw [eX', ← eV]
      have q4 : qz_ll (qz_X s) (qz_V (qz_A i) (qz_A j)) (4 * p + k + 1) = if (x && y) = true then (if qz_ll (qz_X s) (qz_V (qz_A i) (qz_A j)) (4 * p + k) ≤ qz_A i * nI p + qz_A j * nI k then qz_ll (qz_X s) (qz_V (qz_A i) (qz_A j)) (4 * p + k) else qz_A i * nI p + qz_A j * nI k) else qz_ll (qz_X s) (qz_V (qz_A i) (qz_A j)) (4 * p + k) := by
        show (if qz_X s (4 * p + k) = true then (if qz_ll (qz_X s) (qz_V (qz_A i) (qz_A j)) (4 * p + k) ≤ qz_V (qz_A i) (qz_A j) (4 * p + k) then qz_ll (qz_X s) (qz_V (qz_A i) (qz_A j)) (4 * p + k) else qz_V (qz_A i) (qz_A j) (4 * p + k)) else qz_ll (qz_X s) (qz_V (qz_A i) (qz_A j)) (4 * p + k)) = _
        rw [eX', ← eV]
      rw [q1, q2, q3, q4] at w'
      exact w'
    exact ek_if (qz_tb1 (by omega) (by omega)) (fun g => main true g.symm) (fun g => main false (qz_nt g).symm)
theorem qz_L60 {x3 : Int32} {u : St2} (hi : i < 17) (hj : j < 17) (hs : s < 256) (hp : post 1 ()) (hU : qz_U (qz_V (qz_A i) (qz_A j)) 0 u) :
    ∃ n, wL_lawOf_60 post mc ms x3 (nI s) (qz_A i) (qz_A j) kc ks n 1 0 0 0 1000 0
      u.1 u.2.1 u.2.2.1 u.2.2.2.1 u.2.2.2.2.1 u.2.2.2.2.2.1 u.2.2.2.2.2.2.1 u.2.2.2.2.2.2.2.1 u.2.2.2.2.2.2.2.2.1 u.2.2.2.2.2.2.2.2.2.1 u.2.2.2.2.2.2.2.2.2.2.1 u.2.2.2.2.2.2.2.2.2.2.2.1 u.2.2.2.2.2.2.2.2.2.2.2.2 := by
  refine pk_loop (fun n p (u : St2) => wL_lawOf_60 post mc ms x3 (nI s) (qz_A i) (qz_A j) kc ks n 1 (nI (qz_ct (qz_X s) (4 * p))) (nI (qz_ct (qz_Y s) (4 * p))) (qz_sm (qz_X s) (qz_V (qz_A i) (qz_A j)) (4 * p)) (qz_ll (qz_X s) (qz_V (qz_A i) (qz_A j)) (4 * p)) (nI p)
      u.1 u.2.1 u.2.2.1 u.2.2.2.1 u.2.2.2.2.1 u.2.2.2.2.2.1 u.2.2.2.2.2.2.1 u.2.2.2.2.2.2.2.1 u.2.2.2.2.2.2.2.2.1 u.2.2.2.2.2.2.2.2.2.1 u.2.2.2.2.2.2.2.2.2.2.1 u.2.2.2.2.2.2.2.2.2.2.2.1 u.2.2.2.2.2.2.2.2.2.2.2.2)
    (fun p u => qz_U (qz_V (qz_A i) (qz_A j)) (4 * p) u) 4 0 u (by omega) hU (fun n u h => ?_) (fun n p u hp4 h hw => ?_)
  · obtain ⟨fc, fo, fe, cp, op, a1, a2, a3, a4, a5, a6, a7, a8⟩ := u
    obtain ⟨c, o, hN, hI⟩ := h
    exact qz_L60x hi hj hs hp hI hN
  · exact pk_le 4 p (fun z => absurd z (by omega)) (fun _ => qz_L69 hi hj hs hp4 h hw)
end
theorem qz_ab (x : Int32) : ∃ i, i < 17 ∧ ((x &&& 65535) - (x &&& 65535) / 17 * 17) - 8 = qz_A i := by
  obtain ⟨n, hn, e⟩ := pk_andE x (m := 65535) 16 (by decide)
  refine ⟨n % 17, Nat.mod_lt _ (by decide), ?_⟩
  rw [e]
  show (nI n - nI n / nI 17 * nI 17) - 8 = nI (n % 17) - 8
  rw [pk_rem (by omega) (by omega) (by omega)]
theorem qz_lawOf (p0 p1 p2 p3 : Int32) : wpL_lawOf (fun r _ => r = 1) 9 437 () p0 p1 p2 p3 := by
  obtain ⟨s, hs, es⟩ := pk_andE p0 (m := 255) 8 (by decide)
  obtain ⟨i, hi, ei⟩ := qz_ab p1
  obtain ⟨j, hj, ej⟩ := qz_ab p2
  unfold wpL_lawOf
  refine ⟨by omega, by omega, 8, 424, by omega, by omega, ?_⟩
  refine ⟨by omega, by omega, by omega, by omega, by omega, by omega, by omega, by omega, by omega, by omega, by omega, by omega, by omega, by omega, by omega, by omega, ?_⟩
  refine nm_r es ⟨by decide, nm_r ei ⟨by decide, nm_r ej ?_⟩⟩
  refine qz_L60 (u := (0, 0, 0, 0, 0, fun _ => 0, fun _ => 0, fun _ => 0, fun _ => 0, fun _ => 0, fun _ => 0, fun _ => 0, fun _ => 0)) hi hj hs rfl ⟨0, 0, rfl, by omega, rfl, rfl, rfl, fun e he => absurd he (by omega), fun h hh r hr => ?_, fun h hh r hr => ?_, fun h hh r hr => ?_⟩
  · rw [decide_eq_false (Nat.not_lt_zero _), Bool.false_and]
    exact qz_b0 r
  · rw [decide_eq_false (Nat.not_lt_zero _), Bool.false_and]
    exact qz_b0 r
  · rw [decide_eq_false (Nat.not_lt_zero _), Bool.false_and]
    exact qz_b0 r
theorem qz_cell {post : Int32 → Prop} {L : Nat} {xs : Nat → Int32} {u : St0} (hL : L ≤ 4) (k : Nat) (hk : k < 4) (h : ∀ x, post x) : wpL_cellAt post L xs u (nI k) :=
  pk_le L k (fun _ => h 0) (fun z => ⟨pk_in k L z, h _⟩)
theorem i_vc (xs : Nat → Int32) (L : Nat) (hL : L ≤ 4) : wpL_law (fun r => r = 1) L xs := by
  unfold wpL_law
  exact qz_cell hL 0 (by omega) (fun r1 => qz_cell hL 1 (by omega) (fun r2 => qz_cell hL 2 (by omega) (fun r3 => qz_cell hL 3 (by omega) (fun r4 => ⟨9, 437, by omega, by omega, qz_lawOf r1 r2 r3 r4⟩))))
end
