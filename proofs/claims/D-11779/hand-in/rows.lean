section
/-! the value of a set: what its pieces are put together to -/
def fd_F (v : Nat → Int32) : Nat → Int32 → Int32
  | 0, _ => 0
  | n + 1, a => fd_F v n a ^^^ (if a.toBitVec.getLsbD n then v n else 0)
/-- what the walk needs of a value: linear, blind to a narrowing, a byte -/
def fd_L (F : Int32 → Int32) : Prop := (∀ a b : Int32, F (a ^^^ b) = F a ^^^ F b) ∧ (∀ a : Int32, F a.toInt16.toInt32 = F a) ∧ (∀ a : Int32, F a &&& 255 = F a)
theorem fd_xx (a b c d : Int32) : (a ^^^ b) ^^^ (c ^^^ d) = (a ^^^ c) ^^^ (b ^^^ d) := by
  rw [Int32.xor_assoc, Int32.xor_assoc, ← Int32.xor_assoc b c d, Int32.xor_comm b c, Int32.xor_assoc c b d]
theorem fd_F_xor (v : Nat → Int32) (n : Nat) (a b : Int32) : fd_F v n (a ^^^ b) = fd_F v n a ^^^ fd_F v n b := by
  induction n with
  | zero => exact (Int32.xor_self (a := 0)).symm
  | succ n ih =>
    show fd_F v n (a ^^^ b) ^^^ (if (a ^^^ b).toBitVec.getLsbD n then v n else 0) = (fd_F v n a ^^^ (if a.toBitVec.getLsbD n then v n else 0)) ^^^ (fd_F v n b ^^^ (if b.toBitVec.getLsbD n then v n else 0))
    rw [fd_xx, ih, Int32.toBitVec_xor, BitVec.getLsbD_xor]
    congr 1
    cases a.toBitVec.getLsbD n <;> cases b.toBitVec.getLsbD n <;> simp
theorem fd_b16 (a : Int32) {n : Nat} (hn : n < 8) : a.toInt16.toInt32.toBitVec.getLsbD n = a.toBitVec.getLsbD n := by
  rw [Int16.toBitVec_toInt32, Int32.toBitVec_toInt16, BitVec.getLsbD_signExtend, BitVec.getLsbD_signExtend]
  simp [show n < 32 by omega, show n < 16 by omega]
theorem fd_F_16 (v : Nat → Int32) (n : Nat) (hn : n ≤ 8) (a : Int32) : fd_F v n a.toInt16.toInt32 = fd_F v n a := by
  induction n with
  | zero => rfl
  | succ n ih =>
    show fd_F v n a.toInt16.toInt32 ^^^ (if a.toInt16.toInt32.toBitVec.getLsbD n then v n else 0) = fd_F v n a ^^^ (if a.toBitVec.getLsbD n then v n else 0)
    rw [ih (by omega), fd_b16 a (by omega)]
theorem fd_ax (x y m : Int32) : (x ^^^ y) &&& m = (x &&& m) ^^^ (y &&& m) := by
  apply Int32.toBitVec_inj.1
  apply BitVec.eq_of_getLsbD_eq
  intro i _
  rw [Int32.toBitVec_and, Int32.toBitVec_xor, Int32.toBitVec_xor, Int32.toBitVec_and, Int32.toBitVec_and, BitVec.getLsbD_and, BitVec.getLsbD_xor, BitVec.getLsbD_xor, BitVec.getLsbD_and, BitVec.getLsbD_and]
  cases x.toBitVec.getLsbD i <;> cases y.toBitVec.getLsbD i <;> cases m.toBitVec.getLsbD i <;> rfl
theorem fd_F_R (v : Nat → Int32) (hv : ∀ k, v k &&& 255 = v k) (n : Nat) (a : Int32) : fd_F v n a &&& 255 = fd_F v n a := by
  induction n with
  | zero => show (0 : Int32) &&& 255 = 0; decide
  | succ n ih =>
    show (fd_F v n a ^^^ (if a.toBitVec.getLsbD n then v n else 0)) &&& 255 = fd_F v n a ^^^ (if a.toBitVec.getLsbD n then v n else 0)
    rw [fd_ax, ih]
    cases a.toBitVec.getLsbD n
    · simp
    · simp [hv n]
theorem fd_F_L (v : Nat → Int32) (hv : ∀ k, v k &&& 255 = v k) : fd_L (fd_F v 8) := ⟨fd_F_xor v 8, fd_F_16 v 8 (Nat.le_refl 8), fd_F_R v hv 8⟩
/-! bytes -/
theorem fd_of {x : Int32} (h : x &&& 255 = x) : ∃ j : Nat, j < 256 ∧ x = nI j := by
  obtain ⟨j, hj, e⟩ := pk_andE x (m := 255) 8 (by decide)
  exact ⟨j, hj, h.symm.trans e⟩
theorem fd_t16 : ∀ j, j < 256 → (nI j).toInt16.toInt32 = nI j := by decide +kernel
theorem fd_tlo : ∀ j, j < 256 → ¬ nI j < 0 := by decide +kernel
theorem fd_thi : ∀ j, j < 256 → nI j ≤ 255 := by decide +kernel
theorem fd_n16 {x : Int32} (h : x &&& 255 = x) : x.toInt16.toInt32 = x := by
  obtain ⟨j, hj, rfl⟩ := fd_of h
  exact fd_t16 j hj
theorem fd_lo {x : Int32} (h : x &&& 255 = x) : ¬ x < 0 := by
  obtain ⟨j, hj, rfl⟩ := fd_of h
  exact fd_tlo j hj
theorem fd_hi {x : Int32} (h : x &&& 255 = x) : x ≤ 255 := by
  obtain ⟨j, hj, rfl⟩ := fd_of h
  exact fd_thi j hj
theorem fd_F0 {F : Int32 → Int32} (h : fd_L F) : F 0 = 0 := by
  have e := h.1 0 0
  rw [Int32.xor_self, Int32.xor_self] at e
  exact e
/-! a bit -/
theorem fd_sl : ∀ n, n < 32 → ((nI n &&& 31).toBitVec.smod 32).toNat = n := by decide +kernel
theorem fd_bit (x : Int32) (n : Nat) (hn : n < 32) : (x >>> (nI n &&& 31)) &&& 1 = if x.toBitVec.getLsbD n then 1 else 0 := by
  apply Int32.toBitVec_inj.1
  rw [Int32.toBitVec_and, Int32.toBitVec_shiftRight]
  show (x.toBitVec.sshiftRight ((nI n &&& 31).toBitVec.smod 32).toNat) &&& 1#32 = _
  rw [fd_sl n hn, BitVec.and_one_eq_setWidth_ofBool_getLsbD, BitVec.getLsbD_sshiftRight, Nat.add_zero]
  cases x.toBitVec.getLsbD n
  · simp [hn]
  · simp [hn]
/-- the value of one piece alone -/
theorem fd_one : ∀ k, k < 8 → ∀ n, n < 8 → ((1 : Int32) <<< (nI k &&& 31)).toBitVec.getLsbD n = decide (n = k) := by decide +kernel
theorem fd_F_one (v : Nat → Int32) {k : Nat} (hk : k < 8) : ∀ n, n ≤ 8 → fd_F v n ((1 : Int32) <<< (nI k &&& 31)) = if k < n then v k else 0
  | 0, _ => rfl
  | n + 1, hn => by
    show fd_F v n ((1 : Int32) <<< (nI k &&& 31)) ^^^ (if ((1 : Int32) <<< (nI k &&& 31)).toBitVec.getLsbD n then v n else 0) = _
    rw [fd_F_one v hk n (by omega), fd_one k hk n (by omega)]
    rcases Nat.lt_trichotomy k n with h | h | h
    · simp [h, show k < n + 1 by omega, show ¬ n = k by omega]
    · subst h
      simp
    · simp [show ¬ k < n by omega, show ¬ k < n + 1 by omega, show ¬ n = k by omega]
end
section
/-! the pure model of the sets: what reduce, leader, include, build, singles, ones make of them -/
def fd_rd (l : List Int32) : Nat → Int32 → Int32
  | 0, s => s
  | i + 1, s => if ((s >>> (nI i &&& 31)) &&& 1) = 0 then fd_rd l i s else if l.getD i 0 = 0 then fd_rd l i s else fd_rd l i (s ^^^ l.getD i 0)
def fd_ld (t : Int32) : Nat → Nat
  | 0 => 0
  | i + 1 => if ((t >>> (nI (i + 1) &&& 31)) &&& 1) = 0 then fd_ld t i else i + 1
def fd_w (l : List Int32) (t : Int32) (k j : Nat) : Int32 := if ((l.getD j 0 >>> (nI k &&& 31)) &&& 1) = 0 then l.getD j 0 else (l.getD j 0 ^^^ t).toInt16.toInt32
def fd_e (l : List Int32) (t : Int32) (k j : Nat) : Int32 := if j = k then t.toInt16.toInt32 else fd_w l t k j
def fd_put (l : List Int32) (t : Int32) (k : Nat) : List Int32 := [fd_e l t k 0, fd_e l t k 1, fd_e l t k 2, fd_e l t k 3, fd_e l t k 4, fd_e l t k 5, fd_e l t k 6, fd_e l t k 7]
def fd_inc (m : List Int32 × Int32) (s : Int32) : List Int32 × Int32 := if fd_rd m.1 8 s = 0 then m else (fd_put m.1 (fd_rd m.1 8 s) (fd_ld (fd_rd m.1 8 s) 7), m.2 + 1)
def fd_bd (S : Nat → Int32) (P : Int32) : Nat → List Int32 × Int32
  | 0 => ([0, 0, 0, 0, 0, 0, 0, 0], 0)
  | k + 1 => if ((P >>> (nI k &&& 31)) &&& 1) = 0 then fd_bd S P k else fd_inc (fd_bd S P k) (S k)
def fd_sg (l : List Int32) : Nat → Int32
  | 0 => 0
  | i + 1 => if l.getD i 0 = ((1 : Int32) <<< (nI i &&& 31)) then fd_sg l i ||| ((1 : Int32) <<< (nI i &&& 31)) else fd_sg l i ||| 0
def fd_on (x : Int32) : Nat → Int32
  | 0 => 0
  | i + 1 => fd_on x i + ((x >>> (nI i &&& 31)) &&& 1)
theorem fd_put_at (l : List Int32) (t : Int32) (k : Nat) : ∀ j, j < 8 → (fd_put l t k).getD j 0 = fd_e l t k j
  | 0, _ => rfl
  | 1, _ => rfl
  | 2, _ => rfl
  | 3, _ => rfl
  | 4, _ => rfl
  | 5, _ => rfl
  | 6, _ => rfl
  | 7, _ => rfl
  | n + 8, h => absurd h (by omega)
theorem fd_zero_at : ∀ j, j < 8 → ([0, 0, 0, 0, 0, 0, 0, 0] : List Int32).getD j 0 = 0 := by decide
theorem fd_ld_le (t : Int32) : ∀ i, fd_ld t i ≤ i
  | 0 => Nat.le_refl 0
  | i + 1 => by
    have ih := fd_ld_le t i
    unfold fd_ld
    split
    · omega
    · omega
/-! the picture -/
def fd_row (F : Int32 → Int32) (l : List Int32) (a3 a4 : Nat → Int32) : Prop := ∀ j, j < 8 → a3 j = l.getD j 0 ∧ a4 j = F (l.getD j 0)
def fd_drp (F : Int32 → Int32) (S : Nat → Int32) (a1 a2 : Nat → Int32) : Prop := ∀ j, j < 10 → a1 j = S j ∧ a2 j = F (S j)
/-- the state: the drops S, of which P are present; what is known, if it is known -/
def fd_ok (F : Int32 → Int32) (S : Nat → Int32) (P : Int32) (u : St2) : Prop := u.1 = P ∧ fd_drp F S u.2.2.2.2.2.1 u.2.2.2.2.2.2.1 ∧ (¬ u.2.1 = 0 → u.2.2.1 = (fd_bd S P 10).2 ∧ fd_row F (fd_bd S P 10).1 u.2.2.2.2.2.2.2.1 u.2.2.2.2.2.2.2.2)
/-- and it is known -/
def fd_kn (F : Int32 → Int32) (S : Nat → Int32) (P : Int32) (u : St2) : Prop := u.1 = P ∧ fd_drp F S u.2.2.2.2.2.1 u.2.2.2.2.2.2.1 ∧ ¬ u.2.1 = 0 ∧ u.2.2.1 = (fd_bd S P 10).2 ∧ fd_row F (fd_bd S P 10).1 u.2.2.2.2.2.2.2.1 u.2.2.2.2.2.2.2.2
theorem fd_kn_ok {F : Int32 → Int32} {S : Nat → Int32} {P : Int32} {u : St2} (h : fd_kn F S P u) : fd_ok F S P u := ⟨h.1, h.2.1, fun _ => h.2.2.2⟩
end
section
/-! one lemma a method -/
theorem fd_red_loop {post : St2 → Prop} {F : Int32 → Int32} (hF : fd_L F) {pr kn rk : Int32} {a1 a2 a3 a4 : Nat → Int32} {l : List Int32} (hr : fd_row F l a3 a4) (d : Int32) : ∀ (i : Nat), i ≤ 8 → ∀ s v : Int32, v = F s ^^^ d → post (pr, kn, rk, fd_rd l i s, F (fd_rd l i s) ^^^ d, a1, a2, a3, a4) → wX_reduce_13 post pr kn rk a1 a2 a3 a4 (i + 1) (nI i + (-1)) s v := by
  intro i
  induction i with
  | zero =>
    intro _ s v hv H
    subst hv
    exact br_t (by decide) H
  | succ i ih =>
    intro hi s v hv H
    rw [pk_m1]
    have hc : (nI i).toNatClampNeg = i := nI_clamp (by omega)
    have h8 : vp_in (nI i) 8 := vp_in_nI (by omega) (by omega)
    obtain ⟨h3, h4⟩ := hr i (by omega)
    refine br_f (nI_pos (by omega)) ?_
    by_cases hb : ((s >>> (nI i &&& 31)) &&& 1) = 0
    · have e : fd_rd l (i + 1) s = fd_rd l i s := if_pos hb
      rw [e] at H
      exact br_t hb (nm_e (ih (by omega) s v hv H))
    · by_cases hz : l.getD i 0 = 0
      · have e : fd_rd l (i + 1) s = fd_rd l i s := (if_neg hb).trans (if_pos hz)
        rw [e] at H
        refine br_f hb ⟨h8, ?_⟩
        rw [hc, h3]
        exact br_t hz (nm_e (ih (by omega) s v hv H))
      · have e : fd_rd l (i + 1) s = fd_rd l i (s ^^^ l.getD i 0) := (if_neg hb).trans (if_neg hz)
        rw [e] at H
        refine br_f hb ⟨h8, ?_⟩
        rw [hc, h3, h4]
        refine br_f hz ⟨h8, nm_e ⟨h8, nm_e (nm_e (ih (by omega) (s ^^^ l.getD i 0) _ ?_ H))⟩⟩
        rw [hv, hF.1, Int32.xor_assoc, Int32.xor_comm d, Int32.xor_assoc]
theorem fd_reduce {post : St2 → Prop} {F : Int32 → Int32} (hF : fd_L F) {pr kn rk ls lv : Int32} {a1 a2 a3 a4 : Nat → Int32} {l : List Int32} (hr : fd_row F l a3 a4) (s v d : Int32) (hv : v = F s ^^^ d) (H : post (pr, kn, rk, fd_rd l 8 s, F (fd_rd l 8 s) ^^^ d, a1, a2, a3, a4)) : wpX_reduce post (pr, kn, rk, ls, lv, a1, a2, a3, a4) s v :=
  ⟨9, fd_red_loop hF hr d 8 (by omega) s v hv H⟩
theorem fd_lead {post : Int32 → Prop} (t : Int32) : ∀ i, i ≤ 7 → post (nI (fd_ld t i)) → wX_leader_3 post t (i + 1) (nI i) := by
  intro i
  induction i with
  | zero =>
    intro _ H
    exact br_t (by decide) H
  | succ i ih =>
    intro hi H
    refine br_f (nI_nle (by omega) (by omega)) ?_
    by_cases hb : ((t >>> (nI (i + 1) &&& 31)) &&& 1) = 0
    · have e : fd_ld t (i + 1) = fd_ld t i := if_pos hb
      rw [e] at H
      exact br_t hb (nm_r (pk_m1 i) (ih (by omega) H))
    · have e : fd_ld t (i + 1) = i + 1 := if_neg hb
      rw [e] at H
      exact br_f hb H
theorem fd_inc_loop {post : St2 → Prop} {F : Int32 → Int32} (hF : fd_L F) {pr kn rk t : Int32} {k : Nat} (hk : k < 8) {a1 a2 a3 a4 : Nat → Int32} {l : List Int32} (hr : fd_row F l a3 a4)
    (H : ∀ a3' a4', fd_row F (fd_put l t k) a3' a4' → post (pr, kn, rk + 1, t, F t, a1, a2, a3', a4')) : ∃ n, wX_include_25 post (nI k) pr kn rk t (F t) n 0 a1 a2 a3 a4 := by
  have hk8 : vp_in (nI k) 8 := vp_in_nI hk (by omega)
  have hkc : (nI k).toNatClampNeg = k := nI_clamp (by omega)
  refine pk_loop (fun n i (s : (Nat → Int32) × (Nat → Int32)) => wX_include_25 post (nI k) pr kn rk t (F t) n (nI i) a1 a2 s.1 s.2)
    (fun i s => ∀ j, j < 8 → (j < i → s.1 j = fd_w l t k j ∧ s.2 j = F (fd_w l t k j)) ∧ (i ≤ j → s.1 j = l.getD j 0 ∧ s.2 j = F (l.getD j 0)))
    8 0 (a3, a4) (by omega) (fun j hj => ⟨fun z => absurd z (by omega), fun _ => hr j hj⟩) ?_ ?_
  · intro n s h
    refine pk_le 8 8 (fun _ => ⟨hk8, nm_e ⟨hk8, nm_e (nm_e (H _ _ ?_))⟩⟩) (fun z => absurd z (by omega))
    rw [hkc]
    intro j hj
    rw [fd_put_at l t k j hj]
    by_cases e : j = k
    · have ee : fd_e l t k j = t.toInt16.toInt32 := if_pos e
      rw [ee, e, pk_us, pk_us, fd_n16 (hF.2.2 t), hF.2.1 t]
      exact ⟨rfl, rfl⟩
    · have ee : fd_e l t k j = fd_w l t k j := if_neg e
      rw [ee, pk_un e, pk_un e]
      exact (h j hj).1 hj
  · intro n i s hi h hw
    have hi8 : vp_in (nI i) 8 := vp_in_nI hi (by omega)
    obtain ⟨h3, h4⟩ := (h i hi).2 (Nat.le_refl i)
    refine pk_le 8 i (fun z => absurd z (by omega)) (fun _ => ⟨hi8, ?_⟩)
    rw [nI_clamp (show i < 2 ^ 31 by omega), h3, h4]
    by_cases hb : ((l.getD i 0 >>> (nI k &&& 31)) &&& 1) = 0
    · have ew : fd_w l t k i = l.getD i 0 := if_pos hb
      refine br_t hb (nm_r (nI_1 i) (hw s (fun j hj => ⟨fun z => ?_, fun z => (h j hj).2 (by omega)⟩)))
      by_cases e : j = i
      · rw [e, ew]
        exact ⟨h3, h4⟩
      · exact (h j hj).1 (by omega)
    · have ew : fd_w l t k i = (l.getD i 0 ^^^ t).toInt16.toInt32 := if_neg hb
      refine br_f hb ⟨hi8, hi8, nm_e ⟨hi8, hi8, nm_e (nm_r (nI_1 i) (hw (upd s.1 i ((l.getD i 0 ^^^ t).toInt16.toInt32), upd s.2 i ((F (l.getD i 0) ^^^ F t).toInt16.toInt32)) (fun j hj => ⟨fun z => ?_, fun z => ?_⟩)))⟩⟩
      · dsimp only
        by_cases e : j = i
        · rw [e, ew, pk_us, pk_us, ← hF.1, fd_n16 (hF.2.2 _), hF.2.1]
          exact ⟨rfl, rfl⟩
        · rw [pk_un e, pk_un e]
          exact (h j hj).1 (by omega)
      · dsimp only
        rw [pk_un (show j ≠ i by omega), pk_un (show j ≠ i by omega)]
        exact (h j hj).2 (by omega)
theorem fd_include {post : St2 → Prop} {F : Int32 → Int32} (hF : fd_L F) {pr kn rk ls lv : Int32} {a1 a2 a3 a4 : Nat → Int32} {m : List Int32 × Int32} (hk : rk = m.2) (hr : fd_row F m.1 a3 a4) (s v d : Int32) (hv : v = F s ^^^ d) (hd : d = 0 ∨ fd_rd m.1 8 s = 0)
    (H : ∀ ls' lv' a3' a4', fd_row F (fd_inc m s).1 a3' a4' → post (pr, kn, (fd_inc m s).2, ls', lv', a1, a2, a3', a4')) : wpX_include post (pr, kn, rk, ls, lv, a1, a2, a3, a4) s v := by
  unfold wpX_include
  dsimp only
  refine fd_reduce hF hr s v d hv ?_
  dsimp only
  subst hk
  by_cases hz : fd_rd m.1 8 s = 0
  · have e : fd_inc m s = m := if_pos hz
    rw [e] at H
    exact br_t hz (H _ _ _ _ hr)
  · have d0 : d = 0 := hd.resolve_right hz
    have e : fd_inc m s = (fd_put m.1 (fd_rd m.1 8 s) (fd_ld (fd_rd m.1 8 s) 7), m.2 + 1) := if_neg hz
    rw [e] at H
    rw [d0, Int32.xor_zero]
    refine br_f hz ⟨8, fd_lead _ 7 (by omega) ?_⟩
    exact fd_inc_loop hF (Nat.lt_of_le_of_lt (fd_ld_le _ 7) (by omega)) hr (fun a3' a4' h => H _ _ a3' a4' h)
theorem fd_clear {post : St2 → Prop} {F : Int32 → Int32} (hF : fd_L F) {pr kn rk ls lv : Int32} {a1 a2 a3 a4 : Nat → Int32}
    (H : ∀ a3' a4', fd_row F [0, 0, 0, 0, 0, 0, 0, 0] a3' a4' → post (pr, kn, 0, ls, lv, a1, a2, a3', a4')) : wpX_clearRows post (pr, kn, rk, ls, lv, a1, a2, a3, a4) := by
  refine pk_loop (fun n i (s : (Nat → Int32) × (Nat → Int32)) => wX_clearRows_2 post pr kn rk ls lv n (nI i) a1 a2 s.1 s.2)
    (fun i s => ∀ j, j < i → s.1 j = 0 ∧ s.2 j = 0) 8 0 (a3, a4) (by omega) (fun j hj => absurd hj (by omega)) ?_ ?_
  · intro n s h
    refine pk_le 8 8 (fun _ => H _ _ (fun j hj => ?_)) (fun z => absurd z (by omega))
    rw [fd_zero_at j hj, fd_F0 hF]
    exact h j hj
  · intro n i s hi h hw
    have hi8 : vp_in (nI i) 8 := vp_in_nI hi (by omega)
    refine pk_le 8 i (fun z => absurd z (by omega)) (fun _ => ⟨hi8, ?_⟩)
    rw [nI_clamp (show i < 2 ^ 31 by omega)]
    refine nm_e ⟨hi8, nm_e (nm_r (nI_1 i) (hw (upd s.1 i 0, upd s.2 i 0) (fun j hj => ?_)))⟩
    dsimp only
    by_cases e : j = i
    · rw [e, pk_us, pk_us]
      exact ⟨rfl, rfl⟩
    · rw [pk_un e, pk_un e]
      exact h j (by omega)
theorem fd_build {post : St2 → Prop} {F : Int32 → Int32} (hF : fd_L F) {S : Nat → Int32} {pr kn rk ls lv : Int32} {a1 a2 a3 a4 : Nat → Int32} (hs : fd_drp F S a1 a2) (P : Int32)
    (H : ∀ ls' lv' a3' a4', fd_row F (fd_bd S P 10).1 a3' a4' → post (pr, kn, (fd_bd S P 10).2, ls', lv', a1, a2, a3', a4')) : wpX_build post (pr, kn, rk, ls, lv, a1, a2, a3, a4) P := by
  unfold wpX_build
  dsimp only
  refine fd_clear hF (fun b3 b4 hb => ?_)
  dsimp only
  refine pk_loop (fun n i (s : Int32 × Int32 × Int32 × (Nat → Int32) × (Nat → Int32)) => wX_build_6 post P n (nI i) pr kn s.1 s.2.1 s.2.2.1 a1 a2 s.2.2.2.1 s.2.2.2.2)
    (fun i s => s.1 = (fd_bd S P i).2 ∧ fd_row F (fd_bd S P i).1 s.2.2.2.1 s.2.2.2.2) 10 0 (0, ls, lv, b3, b4) (by omega) ⟨rfl, hb⟩ ?_ ?_
  · intro n s h
    obtain ⟨rk', ls', lv', c3, c4⟩ := s
    obtain ⟨h1, h2⟩ := h
    dsimp only at h1 h2
    subst h1
    exact pk_le 10 10 (fun _ => H _ _ _ _ h2) (fun z => absurd z (by omega))
  · intro n i s hi h hw
    obtain ⟨rk', ls', lv', c3, c4⟩ := s
    obtain ⟨h1, h2⟩ := h
    dsimp only at h1 h2
    have hi10 : vp_in (nI i) 10 := vp_in_nI hi (by omega)
    obtain ⟨q1, q2⟩ := hs i hi
    refine pk_le 10 i (fun z => absurd z (by omega)) (fun _ => ?_)
    by_cases hb : ((P >>> (nI i &&& 31)) &&& 1) = 0
    · have e : fd_bd S P (i + 1) = fd_bd S P i := if_pos hb
      refine br_t hb (nm_r (nI_1 i) (hw (rk', ls', lv', c3, c4) ?_))
      rw [e]
      exact ⟨h1, h2⟩
    · have e : fd_bd S P (i + 1) = fd_inc (fd_bd S P i) (S i) := if_neg hb
      refine br_f hb ⟨hi10, hi10, ?_⟩
      rw [nI_clamp (show i < 2 ^ 31 by omega), q1, q2]
      refine fd_include hF h1 h2 (S i) (F (S i)) 0 Int32.xor_zero.symm (Or.inl rfl) (fun ls2 lv2 d3 d4 hd => ?_)
      refine nm_r (nI_1 i) (hw ((fd_inc (fd_bd S P i) (S i)).2, ls2, lv2, d3, d4) ?_)
      rw [e]
      exact ⟨rfl, hd⟩
theorem fd_learn {post : St2 → Prop} {F : Int32 → Int32} (hF : fd_L F) {S : Nat → Int32} {P : Int32} {u : St2} (h : fd_ok F S P u) (H : ∀ u', fd_kn F S P u' → post u') : wpX_learn post u := by
  obtain ⟨pr, kn, rk, ls, lv, a1, a2, a3, a4⟩ := u
  obtain ⟨h1, h2, h3⟩ := h
  dsimp only at h1 h2 h3
  subst h1
  by_cases hk : kn = 0
  · exact br_t hk (fd_build hF h2 pr (fun ls' lv' a3' a4' h => H _ ⟨rfl, h2, (show ¬ (1 : Int32) = 0 by decide), rfl, h⟩))
  · exact br_f hk (H _ ⟨rfl, h2, hk, h3 hk⟩)
theorem fd_has1 {post : Int32 → Prop} {u : St2} {k : Nat} (hk : k < 10) (hb : ¬ ((u.1 >>> (nI k &&& 31)) &&& 1) = 0) (H : post 1) : wpX_has post u (nI k) := by
  obtain ⟨pr, kn, rk, ls, lv, a1, a2, a3, a4⟩ := u
  exact br_f (nI_pos (by omega)) (pk_le 10 k (fun z => absurd z (by omega)) (fun _ => br_f hb H))
theorem fd_has0 {post : Int32 → Prop} {u : St2} {k : Nat} (hk : k < 10) (hb : ((u.1 >>> (nI k &&& 31)) &&& 1) = 0) (H : post 0) : wpX_has post u (nI k) := by
  obtain ⟨pr, kn, rk, ls, lv, a1, a2, a3, a4⟩ := u
  exact br_f (nI_pos (by omega)) (pk_le 10 k (fun z => absurd z (by omega)) (fun _ => br_t hb H))
end
section
/-! the public methods, over the picture -/
theorem fd_take_loop {post : Int32 → St2 → Prop} {x1 x2 pr kn rk ls lv : Int32} {a1 a2 a3 a4 : Nat → Int32} {k : Nat} (hk : k ≤ 10) (hb : ∀ i, i < k → ¬ ((pr >>> (nI i &&& 31)) &&& 1) = 0) (hz : k < 10 → ((pr >>> (nI k &&& 31)) &&& 1) = 0) (H : wX_take_42 post x1 x2 (nI k) pr kn rk ls lv a1 a2 a3 a4) : ∃ n, wX_take_22 post x1 x2 pr kn rk ls lv a1 a2 a3 a4 n 0 :=
  pk_loop (σ := Unit) (fun n i _ => wX_take_22 post x1 x2 pr kn rk ls lv a1 a2 a3 a4 n (nI i)) (fun _ _ => True) k 0 () (by omega) trivial
    (fun n _ _ => pk_le 10 k (fun _ => H) (fun z => fd_has0 z (hz z) (br_t rfl H)))
    (fun n i _ hi _ hw => pk_le 10 i (fun z => absurd z (by omega)) (fun z => fd_has1 (by omega) (hb i hi) (br_f (by decide) (nm_r (nI_1 i) (hw () trivial)))))
theorem fd_isSet1 {post : Int32 → Prop} {s : Int32} (h1 : ¬ s < 1) (h2 : ¬ 255 < s) (H : post 1) : wpX_isSet post () s := br_f h1 (br_f h2 H)
theorem fd_take_in {post : Int32 → St2 → Prop} {pr kn rk ls lv : Int32} {a1 a2 a3 a4 : Nat → Int32} {s v : Int32} (h1 : ¬ s < 1) (h2 : ¬ 255 < s) (hv : v &&& 255 = v) (H : ∃ n, wX_take_22 post s v pr kn rk ls lv a1 a2 a3 a4 n 0) : wpX_take post (pr, kn, rk, ls, lv, a1, a2, a3, a4) s v := by
  unfold wpX_take
  dsimp only
  exact fd_isSet1 h1 h2 (br_f (by decide) (br_f (fd_lo hv) (br_t (fd_hi hv) H)))
theorem fd_take {post : Int32 → St2 → Prop} {F : Int32 → Int32} (hF : fd_L F) {S : Nat → Int32} {P : Int32} {u : St2} (h : fd_ok F S P u) {s v : Int32} (h1 : ¬ s < 1) (h2 : ¬ 255 < s) (hs16 : s.toInt16.toInt32 = s) (hv : v = F s) {k : Nat} (hk : k < 10)
    (hb : ∀ i, i < k → ¬ ((P >>> (nI i &&& 31)) &&& 1) = 0) (hz : ((P >>> (nI k &&& 31)) &&& 1) = 0) {S' : Nat → Int32} {P' : Int32} (hS : ∀ i, i < 10 → S' i = if i = k then s else S i) (hP : P ||| ((1 : Int32) <<< (nI k &&& 31)) = P') (hB : fd_bd S' P' 10 = fd_inc (fd_bd S P 10) s)
    (H : ∀ u', fd_ok F S' P' u' → post (nI k) u') : wpX_take post u s v := by
  obtain ⟨pr, kn, rk, ls, lv, a1, a2, a3, a4⟩ := u
  have hp : pr = P := h.1
  subst hp
  subst hv
  refine fd_take_in h1 h2 (hF.2.2 s) (fd_take_loop (by omega) hb (fun _ => hz) ?_)
  unfold wX_take_42
  refine pk_eq k 10 (fun z => absurd z (by omega)) (fun _ => fd_learn hF h (fun u' hu => ?_))
  obtain ⟨pr', kn', rk', ls', lv', b1, b2, b3, b4⟩ := u'
  obtain ⟨g1, g2, g3, g4, g5⟩ := hu
  dsimp only at g1 g2 g3 g4 g5 ⊢
  subst g1
  have hk10 : vp_in (nI k) 10 := vp_in_nI hk (by omega)
  have tail : ∀ lset lval, wX_take_78 post s (F s) (nI k) pr' kn' rk' lset lval b1 b2 b3 b4 := by
    intro lset lval
    unfold wX_take_78
    refine nm_r hP ⟨hk10, ?_⟩
    rw [nI_clamp (show k < 2 ^ 31 by omega), hs16, fd_n16 (hF.2.2 s)]
    refine nm_e ⟨hk10, nm_e (fd_include hF g4 g5 s (F s) 0 Int32.xor_zero.symm (Or.inl rfl) (fun ls2 lv2 d3 d4 hd => H _ ⟨rfl, fun j hj => ?_, fun _ => ?_⟩))⟩
    · dsimp only
      rw [hS j hj]
      by_cases e : j = k
      · rw [if_pos e, e, pk_us, pk_us]
        exact ⟨rfl, rfl⟩
      · rw [if_neg e, pk_un e, pk_un e]
        exact g2 j hj
    · rw [hB]
      exact ⟨rfl, hd⟩
  refine fd_reduce hF g5 s (F s) 0 Int32.xor_zero.symm ?_
  dsimp only
  by_cases hz0 : fd_rd (fd_bd S pr' 10).1 8 s = 0
  · refine br_t hz0 (br_t ?_ (tail _ _))
    rw [hz0, fd_F0 hF, Int32.xor_zero]
  · exact br_f hz0 (tail _ _)
theorem fd_take_ref {post : Int32 → St2 → Prop} {F : Int32 → Int32} (hF : fd_L F) {S : Nat → Int32} {P : Int32} {u : St2} (h : fd_ok F S P u) {s v d : Int32} (h1 : ¬ s < 1) (h2 : ¬ 255 < s) (hv : v = F s ^^^ d) (hvr : v &&& 255 = v) (hd : ¬ d = 0) (hz0 : fd_rd (fd_bd S P 10).1 8 s = 0) {k : Nat} (hk : k < 10)
    (hb : ∀ i, i < k → ¬ ((P >>> (nI i &&& 31)) &&& 1) = 0) (hz : ((P >>> (nI k &&& 31)) &&& 1) = 0)
    (H : ∀ u', fd_ok F S P u' → post (-3) u') : wpX_take post u s v := by
  obtain ⟨pr, kn, rk, ls, lv, a1, a2, a3, a4⟩ := u
  have hp : pr = P := h.1
  subst hp
  refine fd_take_in h1 h2 hvr (fd_take_loop (by omega) hb (fun _ => hz) ?_)
  unfold wX_take_42
  refine pk_eq k 10 (fun z => absurd z (by omega)) (fun _ => fd_learn hF h (fun u' hu => ?_))
  obtain ⟨pr', kn', rk', ls', lv', b1, b2, b3, b4⟩ := u'
  obtain ⟨g1, g2, g3, g4, g5⟩ := hu
  dsimp only at g1 g2 g3 g4 g5 ⊢
  subst g1
  refine fd_reduce hF g5 s v d hv ?_
  dsimp only
  refine br_t hz0 (br_f ?_ (H _ ⟨rfl, g2, fun _ => ⟨g4, g5⟩⟩))
  rw [hz0, fd_F0 hF, Int32.zero_xor]
  exact hd
theorem fd_take_full {post : Int32 → St2 → Prop} {u : St2} {s v : Int32} (h1 : ¬ s < 1) (h2 : ¬ 255 < s) (hv : v &&& 255 = v) (hb : ∀ i, i < 10 → ¬ ((u.1 >>> (nI i &&& 31)) &&& 1) = 0) (H : post (-2) u) : wpX_take post u s v := by
  obtain ⟨pr, kn, rk, ls, lv, a1, a2, a3, a4⟩ := u
  exact fd_take_in h1 h2 hv (fd_take_loop (k := 10) (by omega) hb (fun z => absurd z (by omega)) (pk_eq 10 10 (fun _ => H) (fun z => absurd rfl z)))
theorem fd_take_b1 {post : Int32 → St2 → Prop} {u : St2} {s v : Int32} (h1 : s < 1) (H : post (-1) u) : wpX_take post u s v := by
  obtain ⟨pr, kn, rk, ls, lv, a1, a2, a3, a4⟩ := u
  exact br_t h1 (br_t rfl H)
theorem fd_take_b2 {post : Int32 → St2 → Prop} {u : St2} {s v : Int32} (h1 : ¬ s < 1) (h2 : 255 < s) (H : post (-1) u) : wpX_take post u s v := by
  obtain ⟨pr, kn, rk, ls, lv, a1, a2, a3, a4⟩ := u
  exact br_f h1 (br_t h2 (br_t rfl H))
theorem fd_take_b3 {post : Int32 → St2 → Prop} {u : St2} {s v : Int32} (h1 : ¬ s < 1) (h2 : ¬ 255 < s) (h3 : ¬ v < 0) (h4 : ¬ v ≤ 255) (H : post (-1) u) : wpX_take post u s v := by
  obtain ⟨pr, kn, rk, ls, lv, a1, a2, a3, a4⟩ := u
  unfold wpX_take
  dsimp only
  exact fd_isSet1 h1 h2 (br_f (by decide) (br_f h3 (br_f h4 H)))
theorem fd_drop1 {post : Int32 → St2 → Prop} {F : Int32 → Int32} {S : Nat → Int32} {P P' : Int32} {u : St2} (h : fd_ok F S P u) {k : Nat} (hk : k < 10) (hb : ¬ ((P >>> (nI k &&& 31)) &&& 1) = 0) (hP : P &&& (((1 : Int32) <<< (nI k &&& 31)) ^^^ (-1)) = P') (H : ∀ u', fd_ok F S P' u' → post 1 u') : wpX_drop post u (nI k) := by
  obtain ⟨pr, kn, rk, ls, lv, a1, a2, a3, a4⟩ := u
  have hp : pr = P := h.1
  subst hp
  unfold wpX_drop
  dsimp only
  exact fd_has1 hk hb (br_f (by decide) (nm_r hP (H _ ⟨rfl, h.2.1, fun z => absurd rfl z⟩)))
theorem fd_drop0 {post : Int32 → St2 → Prop} {F : Int32 → Int32} {S : Nat → Int32} {P : Int32} {u : St2} (h : fd_ok F S P u) {k : Nat} (hk : k < 10) (hb : ((P >>> (nI k &&& 31)) &&& 1) = 0) (H : ∀ u', fd_ok F S P u' → post 0 u') : wpX_drop post u (nI k) := by
  obtain ⟨pr, kn, rk, ls, lv, a1, a2, a3, a4⟩ := u
  have hp : pr = P := h.1
  subst hp
  unfold wpX_drop
  dsimp only
  exact fd_has0 hk hb (br_t rfl (H _ h))
theorem fd_drops {post : Int32 → Prop} {F : Int32 → Int32} {S : Nat → Int32} {P : Int32} {u : St2} (h : fd_ok F S P u) (H : post P) : wpX_drops post u := by
  obtain ⟨pr, kn, rk, ls, lv, a1, a2, a3, a4⟩ := u
  have hp : pr = P := h.1
  subst hp
  exact H
theorem fd_missing {post : Int32 → St2 → Prop} {F : Int32 → Int32} (hF : fd_L F) {S : Nat → Int32} {P : Int32} {u : St2} (h : fd_ok F S P u) (H : ∀ u', fd_ok F S P u' → post (8 - (fd_bd S P 10).2) u') : wpX_missing post u := by
  obtain ⟨pr, kn, rk, ls, lv, a1, a2, a3, a4⟩ := u
  unfold wpX_missing
  dsimp only
  refine fd_learn hF h (fun u' hu => ?_)
  obtain ⟨pr', kn', rk', ls', lv', b1, b2, b3, b4⟩ := u'
  have e : rk' = (fd_bd S P 10).2 := hu.2.2.2.1
  subst e
  exact H _ (fd_kn_ok hu)
theorem fd_knownSums {post : Int32 → St2 → Prop} {F : Int32 → Int32} (hF : fd_L F) {S : Nat → Int32} {P : Int32} {u : St2} (h : fd_ok F S P u) (H : ∀ u', fd_ok F S P u' → post (((1 : Int32) <<< ((fd_bd S P 10).2 &&& 31)) - 1) u') : wpX_knownSums post u := by
  obtain ⟨pr, kn, rk, ls, lv, a1, a2, a3, a4⟩ := u
  unfold wpX_knownSums
  dsimp only
  refine fd_learn hF h (fun u' hu => ?_)
  obtain ⟨pr', kn', rk', ls', lv', b1, b2, b3, b4⟩ := u'
  have e : rk' = (fd_bd S P 10).2 := hu.2.2.2.1
  subst e
  exact H _ (fd_kn_ok hu)
theorem fd_single {post : Int32 → Prop} {F : Int32 → Int32} {pr kn rk ls lv : Int32} {a1 a2 a3 a4 : Nat → Int32} {l : List Int32} (hr : fd_row F l a3 a4) (H : post (fd_sg l 8)) : wpX_singles post (pr, kn, rk, ls, lv, a1, a2, a3, a4) := by
  refine pk_loop (fun n i s => wX_singles_4 post pr kn rk ls lv a1 a2 a3 a4 n s (nI i)) (fun i s => s = fd_sg l i) 8 0 0 (by omega) rfl ?_ ?_
  · intro n s h
    refine pk_le 8 8 (fun _ => ?_) (fun z => absurd z (by omega))
    rw [show s = fd_sg l 8 from h]
    exact H
  · intro n i s hi h hw
    have h' : s = fd_sg l i := h
    refine pk_le 8 i (fun z => absurd z (by omega)) (fun _ => ⟨vp_in_nI hi (by omega), ?_⟩)
    rw [nI_clamp (show i < 2 ^ 31 by omega), (hr i hi).1]
    by_cases hb : l.getD i 0 = ((1 : Int32) <<< (nI i &&& 31))
    · refine br_t hb (nm_e (nm_r (nI_1 i) (hw _ ?_)))
      rw [h']
      exact (if_pos hb).symm
    · refine br_f hb (nm_e (nm_r (nI_1 i) (hw _ ?_)))
      rw [h']
      exact (if_neg hb).symm
theorem fd_ones {post : Int32 → Prop} {x : Int32} (H : post (fd_on x 8)) : wpX_ones post () x := by
  refine pk_loop (fun n i s => wX_ones_4 post x n s (nI i)) (fun i s => s = fd_on x i) 8 0 0 (by omega) rfl ?_ ?_
  · intro n s h
    refine pk_le 8 8 (fun _ => ?_) (fun z => absurd z (by omega))
    rw [show s = fd_on x 8 from h]
    exact H
  · intro n i s hi h hw
    have h' : s = fd_on x i := h
    refine pk_le 8 i (fun z => absurd z (by omega)) (fun _ => nm_e (nm_r (nI_1 i) (hw _ ?_)))
    rw [h']
    rfl
theorem fd_known {post : Int32 → St2 → Prop} {F : Int32 → Int32} (hF : fd_L F) {S : Nat → Int32} {P : Int32} {u : St2} (h : fd_ok F S P u) (H : ∀ u', fd_ok F S P u' → post (fd_sg (fd_bd S P 10).1 8) u') : wpX_known post u := by
  obtain ⟨pr, kn, rk, ls, lv, a1, a2, a3, a4⟩ := u
  unfold wpX_known
  dsimp only
  refine fd_learn hF h (fun u' hu => ?_)
  obtain ⟨pr', kn', rk', ls', lv', b1, b2, b3, b4⟩ := u'
  exact fd_single hu.2.2.2.2 (H _ (fd_kn_ok hu))
theorem fd_piece1 {post : Int32 → St2 → Prop} {F : Int32 → Int32} (hF : fd_L F) {S : Nat → Int32} {P : Int32} {u : St2} (h : fd_ok F S P u) {k : Nat} (hk : k < 8) (hb : (fd_bd S P 10).1.getD k 0 = ((1 : Int32) <<< (nI k &&& 31))) (H : ∀ u', fd_ok F S P u' → post (F ((1 : Int32) <<< (nI k &&& 31))) u') : wpX_piece post u (nI k) := by
  obtain ⟨pr, kn, rk, ls, lv, a1, a2, a3, a4⟩ := u
  refine br_f (nI_pos (by omega)) (pk_lt k 8 (fun _ => fd_learn hF h (fun u' hu => ?_)) (fun z => absurd z (by omega)))
  obtain ⟨pr', kn', rk', ls', lv', b1, b2, b3, b4⟩ := u'
  obtain ⟨q3, q4⟩ := hu.2.2.2.2 k hk
  dsimp only at q3 q4 ⊢
  have hk8 : vp_in (nI k) 8 := vp_in_nI hk (by omega)
  refine ⟨hk8, ?_⟩
  rw [nI_clamp (show k < 2 ^ 31 by omega), q3, q4, hb]
  exact br_t rfl ⟨hk8, H _ (fd_kn_ok hu)⟩
theorem fd_piece0 {post : Int32 → St2 → Prop} {F : Int32 → Int32} (hF : fd_L F) {S : Nat → Int32} {P : Int32} {u : St2} (h : fd_ok F S P u) {k : Nat} (hk : k < 8) (hb : ¬ (fd_bd S P 10).1.getD k 0 = ((1 : Int32) <<< (nI k &&& 31))) (H : ∀ u', fd_ok F S P u' → post (-1) u') : wpX_piece post u (nI k) := by
  obtain ⟨pr, kn, rk, ls, lv, a1, a2, a3, a4⟩ := u
  refine br_f (nI_pos (by omega)) (pk_lt k 8 (fun _ => fd_learn hF h (fun u' hu => ?_)) (fun z => absurd z (by omega)))
  obtain ⟨pr', kn', rk', ls', lv', b1, b2, b3, b4⟩ := u'
  obtain ⟨q3, q4⟩ := hu.2.2.2.2 k hk
  dsimp only at q3 q4 ⊢
  refine ⟨vp_in_nI hk (by omega), ?_⟩
  rw [nI_clamp (show k < 2 ^ 31 by omega), q3]
  exact br_f hb (H _ (fd_kn_ok hu))
theorem fd_possible1 {post : Int32 → St2 → Prop} {F : Int32 → Int32} (hF : fd_L F) {S : Nat → Int32} {P : Int32} {u : St2} (h : fd_ok F S P u) {k : Nat} (hk : k < 8) (hb : (fd_bd S P 10).1.getD k 0 = ((1 : Int32) <<< (nI k &&& 31))) {v : Int32} (hv : v = F ((1 : Int32) <<< (nI k &&& 31))) (H : ∀ u', fd_ok F S P u' → post 1 u') : wpX_possible post u (nI k) v := by
  obtain ⟨pr, kn, rk, ls, lv, a1, a2, a3, a4⟩ := u
  subst hv
  refine br_f (nI_pos (by omega)) (pk_le 8 k (fun z => absurd z (by omega)) (fun _ => br_f (fd_lo (hF.2.2 _)) (br_t (fd_hi (hF.2.2 _)) (fd_piece1 hF h hk hb (fun u' hu => ?_)))))
  obtain ⟨pr', kn', rk', ls', lv', b1, b2, b3, b4⟩ := u'
  exact br_f (fd_lo (hF.2.2 _)) (br_t rfl (H _ hu))
theorem fd_possible0 {post : Int32 → St2 → Prop} {F : Int32 → Int32} (hF : fd_L F) {S : Nat → Int32} {P : Int32} {u : St2} (h : fd_ok F S P u) {k : Nat} (hk : k < 8) (hb : ¬ (fd_bd S P 10).1.getD k 0 = ((1 : Int32) <<< (nI k &&& 31))) {v : Int32} (hv : v &&& 255 = v) (H : ∀ u', fd_ok F S P u' → post 1 u') : wpX_possible post u (nI k) v := by
  obtain ⟨pr, kn, rk, ls, lv, a1, a2, a3, a4⟩ := u
  refine br_f (nI_pos (by omega)) (pk_le 8 k (fun z => absurd z (by omega)) (fun _ => br_f (fd_lo hv) (br_t (fd_hi hv) (fd_piece0 hF h hk hb (fun u' hu => ?_)))))
  obtain ⟨pr', kn', rk', ls', lv', b1, b2, b3, b4⟩ := u'
  exact br_t (by decide) (H _ hu)
theorem fd_rankOf {post : Int32 → St2 → Prop} {F : Int32 → Int32} (hF : fd_L F) {S : Nat → Int32} {P : Int32} {u : St2} (h : fd_ok F S P u) (m : Int32) (H : ∀ u', fd_ok F S P u' → post (fd_bd S (m &&& P) 10).2 u') : wpX_rankOf post u m := by
  obtain ⟨pr, kn, rk, ls, lv, a1, a2, a3, a4⟩ := u
  have hp : pr = P := h.1
  subst hp
  unfold wpX_rankOf
  dsimp only
  exact fd_build hF h.2.1 (m &&& pr) (fun ls' lv' a3' a4' _ => H _ ⟨rfl, h.2.1, fun z => absurd rfl z⟩)
theorem fd_enough1 {post : Int32 → St2 → Prop} {F : Int32 → Int32} (hF : fd_L F) {S : Nat → Int32} {P : Int32} {u : St2} (h : fd_ok F S P u) {m : Int32} (he : (fd_bd S (m &&& P) 10).2 = (fd_bd S (P &&& P) 10).2) (H : ∀ u', fd_ok F S P u' → post 1 u') : wpX_enough post u m := by
  obtain ⟨pr, kn, rk, ls, lv, a1, a2, a3, a4⟩ := u
  have hp : pr = P := h.1
  subst hp
  unfold wpX_enough
  dsimp only
  refine fd_rankOf hF h pr (fun u' hu => ?_)
  obtain ⟨pr', kn', rk', ls', lv', b1, b2, b3, b4⟩ := u'
  refine fd_rankOf hF hu m (fun u2 hu2 => ?_)
  obtain ⟨pr2, kn2, rk2, ls2, lv2, c1, c2, c3, c4⟩ := u2
  exact br_t he (H _ hu2)
theorem fd_enough0 {post : Int32 → St2 → Prop} {F : Int32 → Int32} (hF : fd_L F) {S : Nat → Int32} {P : Int32} {u : St2} (h : fd_ok F S P u) {m : Int32} (he : ¬ (fd_bd S (m &&& P) 10).2 = (fd_bd S (P &&& P) 10).2) (H : ∀ u', fd_ok F S P u' → post 0 u') : wpX_enough post u m := by
  obtain ⟨pr, kn, rk, ls, lv, a1, a2, a3, a4⟩ := u
  have hp : pr = P := h.1
  subst hp
  unfold wpX_enough
  dsimp only
  refine fd_rankOf hF h pr (fun u' hu => ?_)
  obtain ⟨pr', kn', rk', ls', lv', b1, b2, b3, b4⟩ := u'
  refine fd_rankOf hF hu m (fun u2 hu2 => ?_)
  obtain ⟨pr2, kn2, rk2, ls2, lv2, c1, c2, c3, c4⟩ := u2
  exact br_f he (H _ hu2)
theorem fd_idle1 {post : Int32 → St2 → Prop} {F : Int32 → Int32} (hF : fd_L F) {S : Nat → Int32} {P : Int32} {u : St2} (h : fd_ok F S P u) {k : Nat} (hk : k < 10) (hb : ¬ ((P >>> (nI k &&& 31)) &&& 1) = 0) (he : (fd_bd S ((P &&& (((1 : Int32) <<< (nI k &&& 31)) ^^^ (-1))) &&& P) 10).2 = (fd_bd S (P &&& P) 10).2) (H : ∀ u', fd_ok F S P u' → post 1 u') : wpX_idle post u (nI k) := by
  obtain ⟨pr, kn, rk, ls, lv, a1, a2, a3, a4⟩ := u
  have hp : pr = P := h.1
  subst hp
  unfold wpX_idle
  dsimp only
  refine fd_has1 hk hb (br_f (by decide) (fd_enough1 hF h he (fun u' hu => ?_)))
  obtain ⟨pr', kn', rk', ls', lv', b1, b2, b3, b4⟩ := u'
  exact br_f (by decide) (H _ hu)
theorem fd_idle0 {post : Int32 → St2 → Prop} {F : Int32 → Int32} (hF : fd_L F) {S : Nat → Int32} {P : Int32} {u : St2} (h : fd_ok F S P u) {k : Nat} (hk : k < 10) (hb : ¬ ((P >>> (nI k &&& 31)) &&& 1) = 0) (he : ¬ (fd_bd S ((P &&& (((1 : Int32) <<< (nI k &&& 31)) ^^^ (-1))) &&& P) 10).2 = (fd_bd S (P &&& P) 10).2) (H : ∀ u', fd_ok F S P u' → post 0 u') : wpX_idle post u (nI k) := by
  obtain ⟨pr, kn, rk, ls, lv, a1, a2, a3, a4⟩ := u
  have hp : pr = P := h.1
  subst hp
  unfold wpX_idle
  dsimp only
  refine fd_has1 hk hb (br_f (by decide) (fd_enough0 hF h he (fun u' hu => ?_)))
  obtain ⟨pr', kn', rk', ls', lv', b1, b2, b3, b4⟩ := u'
  exact br_t rfl (H _ hu)
theorem fd_idleN {post : Int32 → St2 → Prop} {F : Int32 → Int32} {S : Nat → Int32} {P : Int32} {u : St2} (h : fd_ok F S P u) {k : Nat} (hk : k < 10) (hb : ((P >>> (nI k &&& 31)) &&& 1) = 0) (H : ∀ u', fd_ok F S P u' → post 0 u') : wpX_idle post u (nI k) := by
  obtain ⟨pr, kn, rk, ls, lv, a1, a2, a3, a4⟩ := u
  have hp : pr = P := h.1
  subst hp
  unfold wpX_idle
  dsimp only
  exact fd_has0 hk hb (br_t rfl (H _ h))
theorem fd_sum {post : Int32 → St2 → Prop} {F : Int32 → Int32} (hF : fd_L F) {S : Nat → Int32} {P : Int32} {u : St2} (h : fd_ok F S P u) {s : Int32} (h1 : ¬ s < 0) (h2 : s ≤ 255) (hz : fd_rd (fd_bd S P 10).1 8 s = 0) (H : ∀ u', fd_ok F S P u' → post (F s) u') : wpX_sum post u s := by
  obtain ⟨pr, kn, rk, ls, lv, a1, a2, a3, a4⟩ := u
  refine br_f h1 (br_t h2 (fd_learn hF h (fun u' hu => ?_)))
  obtain ⟨pr', kn', rk', ls', lv', b1, b2, b3, b4⟩ := u'
  obtain ⟨g1, g2, g3, g4, g5⟩ := hu
  dsimp only at g1 g2 g3 g4 g5 ⊢
  refine fd_reduce hF g5 s 0 (F s) Int32.xor_self.symm ?_
  dsimp only
  rw [hz, fd_F0 hF, Int32.zero_xor]
  exact br_t rfl (H _ ⟨g1, g2, fun _ => ⟨g4, g5⟩⟩)
theorem fd_count {post : Int32 → St2 → Prop} {F : Int32 → Int32} (hF : fd_L F) {S : Nat → Int32} {P : Int32} {u : St2} (h : fd_ok F S P u) {s : Int32} (hz : fd_rd (fd_bd S P 10).1 8 s = 0) (H : ∀ u', fd_ok F S P u' → post (fd_on (fd_sg (fd_bd S P 10).1 8) 8) u') : wpX_countWith post u s := by
  obtain ⟨pr, kn, rk, ls, lv, a1, a2, a3, a4⟩ := u
  have hp : pr = P := h.1
  subst hp
  unfold wpX_countWith
  dsimp only
  have hi : fd_inc (fd_bd S pr 10) s = fd_bd S pr 10 := if_pos hz
  refine fd_build hF h.2.1 pr (fun ls' lv' b3 b4 hb => ?_)
  dsimp only
  refine fd_include hF rfl hb s 0 (F s) Int32.xor_self.symm (Or.inr hz) (fun ls2 lv2 c3 c4 hc => ?_)
  rw [hi] at hc
  exact fd_single hc (fd_ones (H _ ⟨rfl, h.2.1, fun z => absurd rfl z⟩))
theorem fd_knownWith {post : Int32 → St2 → Prop} {F : Int32 → Int32} (hF : fd_L F) {S : Nat → Int32} {P : Int32} {u : St2} (h : fd_ok F S P u) {s : Int32} (h1 : ¬ s < 1) (h2 : ¬ 255 < s) (hz : fd_rd (fd_bd S P 10).1 8 s = 0) (H : ∀ u', fd_ok F S P u' → post (fd_on (fd_sg (fd_bd S P 10).1 8) 8) u') : wpX_knownWith post u s := by
  obtain ⟨pr, kn, rk, ls, lv, a1, a2, a3, a4⟩ := u
  unfold wpX_knownWith
  dsimp only
  refine fd_isSet1 h1 h2 (br_f (by decide) (fd_count hF h hz (fun u' hu => ?_)))
  obtain ⟨pr', kn', rk', ls', lv', b1, b2, b3, b4⟩ := u'
  exact H _ hu
theorem fd_bestSet {post : Int32 → St2 → Prop} {F : Int32 → Int32} (hF : fd_L F) {S : Nat → Int32} {P : Int32} {u : St2} (h : fd_ok F S P u) (hz : ∀ j, j < 256 → fd_rd (fd_bd S P 10).1 8 (nI j) = 0) (h8 : fd_on (fd_sg (fd_bd S P 10).1 8) 8 = 8) (H : ∀ u', fd_ok F S P u' → post 1 u') : wpX_bestSet post u := by
  obtain ⟨pr, kn, rk, ls, lv, a1, a2, a3, a4⟩ := u
  refine pk_loop (fun n i (s : Int32 × St2) => wX_bestSet_6 post n 1 s.1 (nI i) s.2.1 s.2.2.1 s.2.2.2.1 s.2.2.2.2.1 s.2.2.2.2.2.1 s.2.2.2.2.2.2.1 s.2.2.2.2.2.2.2.1 s.2.2.2.2.2.2.2.2.1 s.2.2.2.2.2.2.2.2.2)
    (fun i s => (s.1 = 8 ∨ (s.1 = -1 ∧ i = 1)) ∧ fd_ok F S P s.2) 256 1 (-1, (pr, kn, rk, ls, lv, a1, a2, a3, a4)) (by omega) ⟨Or.inr ⟨rfl, rfl⟩, h⟩ ?_ ?_
  · intro n s hs
    exact pk_lt 255 256 (fun _ => H _ hs.2) (fun z => absurd z (by omega))
  · intro n i s hi hs hw
    obtain ⟨x2, pr', kn', rk', ls', lv', b1, b2, b3, b4⟩ := s
    obtain ⟨hx, hs⟩ := hs
    dsimp only at hx hs
    refine pk_lt 255 i (fun z => absurd z (by omega)) (fun _ => fd_count hF hs (hz i hi) (fun u' hu => ?_))
    obtain ⟨pr2, kn2, rk2, ls2, lv2, c1, c2, c3, c4⟩ := u'
    dsimp only
    rw [h8]
    rcases hx with hx | ⟨hx, hi1⟩
    · rw [hx]
      exact br_t (by decide) (nm_r (nI_1 i) (hw (8, (pr2, kn2, rk2, ls2, lv2, c1, c2, c3, c4)) ⟨Or.inl rfl, hu⟩))
    · subst hi1
      rw [hx]
      exact br_f (by decide) (nm_r (nI_1 1) (hw (8, (pr2, kn2, rk2, ls2, lv2, c1, c2, c3, c4)) ⟨Or.inl rfl, hu⟩))
end
section
/-! the law's own drops, and what the model makes of them (g: the piece that goes) -/
def fd_S (g k i : Nat) : Int32 := if i < k then (if i < 8 then ((2 : Int32) <<< (nI i &&& 31)) - 1 else if i = 8 then (1 : Int32) <<< (nI g &&& 31) else 255) else 0
def fd_P (k : Nat) : Int32 := nI (2 ^ k - 1)
def fd_I (k : Nat) : List Int32 := [if 0 < k then 1 else 0, if 1 < k then 2 else 0, if 2 < k then 4 else 0, if 3 < k then 8 else 0, if 4 < k then 16 else 0, if 5 < k then 32 else 0, if 6 < k then 64 else 0, if 7 < k then 128 else 0]
def fd_Q (g : Nat) : Int32 := fd_P 10 &&& (((1 : Int32) <<< (nI g &&& 31)) ^^^ (-1))
def fd_Q2 (g : Nat) : Int32 := fd_Q g &&& (((1 : Int32) <<< (nI 8 &&& 31)) ^^^ (-1))
theorem fd_T1 : ∀ g, g < 8 → ∀ k, k < 11 → fd_bd (fd_S g k) (fd_P k) 10 = (fd_I k, nI (min k 8)) := by decide +kernel
theorem fd_T1i : ∀ g, g < 8 → ∀ k, k < 10 → fd_inc (fd_I k, nI (min k 8)) (fd_S g (k + 1) k) = (fd_I (k + 1), nI (min (k + 1) 8)) := by decide +kernel
theorem fd_T1s : ∀ k, k < 9 → fd_sg (fd_I k) 8 = fd_P k := by decide +kernel
theorem fd_T1p : ∀ k, k < 8 → (fd_I 8).getD k 0 = ((1 : Int32) <<< (nI k &&& 31)) := by decide +kernel
theorem fd_T2 : ∀ g, g < 8 → ∀ k, k < 8 → ¬ (fd_bd (fd_S g 8) ((fd_P 8 &&& (((1 : Int32) <<< (nI k &&& 31)) ^^^ (-1))) &&& fd_P 8) 10).2 = (fd_bd (fd_S g 8) (fd_P 8 &&& fd_P 8) 10).2 := by decide +kernel
theorem fd_T3 : ∀ j, j < 256 → fd_rd (fd_I 8) 8 (nI j) = 0 := by decide +kernel
theorem fd_T4i : ∀ g, g < 8 → ∀ k, k < 10 → 7 ≤ k → (fd_bd (fd_S g 10) ((fd_P 10 &&& (((1 : Int32) <<< (nI k &&& 31)) ^^^ (-1))) &&& fd_P 10) 10).2 = (fd_bd (fd_S g 10) (fd_P 10 &&& fd_P 10) 10).2 := by decide +kernel
theorem fd_T4a : ∀ g, g < 8 → (fd_bd (fd_S g 10) (255 &&& fd_P 10) 10).2 = (fd_bd (fd_S g 10) (fd_P 10 &&& fd_P 10) 10).2 := by decide +kernel
theorem fd_T4b : ∀ g, g < 8 → (fd_bd (fd_S g 10) (1023 &&& fd_P 10) 10).2 = (fd_bd (fd_S g 10) (fd_P 10 &&& fd_P 10) 10).2 := by decide +kernel
theorem fd_T4c : ∀ g, g < 8 → ¬ (fd_bd (fd_S g 10) ((127 &&& (((1 : Int32) <<< (nI g &&& 31)) ^^^ (-1))) &&& fd_P 10) 10).2 = (fd_bd (fd_S g 10) (fd_P 10 &&& fd_P 10) 10).2 := by decide +kernel
theorem fd_T5 : ∀ g, g < 8 → fd_sg (fd_bd (fd_S g 10) (fd_Q g) 10).1 8 = 255 := by decide +kernel
theorem fd_T6r : ∀ g, g < 8 → 8 - (fd_bd (fd_S g 10) (fd_Q2 g) 10).2 = if g = 7 then 0 else 1 := by decide +kernel
theorem fd_T6s : ∀ g, g < 8 → fd_sg (fd_bd (fd_S g 10) (fd_Q2 g) 10).1 8 = if g = 7 then 255 else 255 &&& (((3 : Int32) <<< (nI g &&& 31)) ^^^ (-1)) := by decide +kernel
theorem fd_T6p : ∀ g, g < 8 → ((fd_bd (fd_S g 10) (fd_Q2 g) 10).1.getD g 0 = ((1 : Int32) <<< (nI g &&& 31)) ↔ g = 7) := by decide +kernel
/-! small facts on the numbers of the law -/
theorem fd_U1 : ∀ k, k < 8 → (¬ ((2 : Int32) <<< (nI k &&& 31)) - 1 < 1) ∧ (¬ 255 < ((2 : Int32) <<< (nI k &&& 31)) - 1) ∧ (((2 : Int32) <<< (nI k &&& 31)) - 1).toInt16.toInt32 = ((2 : Int32) <<< (nI k &&& 31)) - 1 := by decide +kernel
theorem fd_U2 : ∀ k, k < 11 → ∀ i, i < k → ¬ ((fd_P k >>> (nI i &&& 31)) &&& 1) = 0 := by decide +kernel
theorem fd_U3 : ∀ k, k < 10 → ((fd_P k >>> (nI k &&& 31)) &&& 1) = 0 := by decide +kernel
theorem fd_U4 : ∀ k, k < 10 → fd_P k ||| ((1 : Int32) <<< (nI k &&& 31)) = fd_P (k + 1) := by decide +kernel
theorem fd_U5 : ∀ k, k < 8 → fd_P k ^^^ ((1 : Int32) <<< (nI k &&& 31)) = ((2 : Int32) <<< (nI k &&& 31)) - 1 ∧ fd_P (k + 1) = ((2 : Int32) <<< (nI k &&& 31)) - 1 ∧ 8 - nI (min (k + 1) 8) = 7 - nI k ∧ ((1 : Int32) <<< (nI (min (k + 1) 8) &&& 31)) - 1 = ((2 : Int32) <<< (nI k &&& 31)) - 1 := by decide +kernel
theorem fd_U6 : ∀ t, t < 256 → ¬ nI t < 0 ∧ nI t ≤ 255 ∧ (¬ (nI t ||| 1) < 1) ∧ (¬ 255 < (nI t ||| 1)) ∧ nI t ||| 1 = nI (t ||| 1) ∧ t ||| 1 < 256 := by decide +kernel
theorem fd_U7 : ∀ t, t < 256 → ((nI t &&& 1) = 1 → nI t ||| 1 = nI t) ∧ (¬ (nI t &&& 1) = 1 → nI t ||| 1 = nI t ^^^ ((1 : Int32) <<< (nI 0 &&& 31))) := by decide +kernel
theorem fd_U8 : ∀ g, g < 8 → (¬ ((1 : Int32) <<< (nI g &&& 31)) < 1) ∧ (¬ 255 < ((1 : Int32) <<< (nI g &&& 31))) ∧ ((1 : Int32) <<< (nI g &&& 31)).toInt16.toInt32 = ((1 : Int32) <<< (nI g &&& 31)) := by decide +kernel
theorem fd_U9 : ∀ g, g < 8 → (¬ ((fd_P 10 >>> (nI g &&& 31)) &&& 1) = 0) ∧ ((fd_Q g >>> (nI g &&& 31)) &&& 1) = 0 ∧ (¬ ((fd_Q g >>> (nI 8 &&& 31)) &&& 1) = 0) := by decide +kernel
theorem fd_S_next (g k : Nat) (i : Nat) : fd_S g (k + 1) i = if i = k then fd_S g (k + 1) k else fd_S g k i := by
  by_cases e : i = k
  · rw [if_pos e, e]
  · rw [if_neg e]
    unfold fd_S
    by_cases h : i < k
    · rw [if_pos h, if_pos (show i < k + 1 by omega)]
    · rw [if_neg h, if_neg (show ¬ i < k + 1 by omega)]
/-- the drops that are taken one by one: the model goes on with them -/
theorem fd_B {g k : Nat} (hg : g < 8) (hk : k < 10) : fd_bd (fd_S g (k + 1)) (fd_P (k + 1)) 10 = fd_inc (fd_bd (fd_S g k) (fd_P k) 10) (fd_S g (k + 1) k) := by
  rw [fd_T1 g hg (k + 1) (by omega), fd_T1 g hg k (by omega), fd_T1i g hg k hk]
end
section
/-! the law -/
def fd_p (lo hi : Int32) (k : Nat) : Int32 := if (4 : Int32) ≤ nI k then (hi >>> ((8 * (nI k - 4)) &&& 31)) &&& 255 else (lo >>> ((8 * nI k) &&& 31)) &&& 255
theorem fd_pc {post : Int32 → Prop} (lo hi : Int32) (k : Nat) (H : post (fd_p lo hi k)) : wpL_piece post () lo hi (nI k) := by
  by_cases c : (4 : Int32) ≤ nI k
  · have e : fd_p lo hi k = (hi >>> ((8 * (nI k - 4)) &&& 31)) &&& 255 := if_pos c
    rw [e] at H
    exact br_t c H
  · have e : fd_p lo hi k = (lo >>> ((8 * nI k) &&& 31)) &&& 255 := if_neg c
    rw [e] at H
    exact br_f c H
theorem fd_aa (x : Int32) : (x &&& 255) &&& 255 = x &&& 255 := by
  rw [Int32.and_assoc]
  rfl
theorem fd_p_R (lo hi : Int32) (k : Nat) : fd_p lo hi k &&& 255 = fd_p lo hi k := by
  unfold fd_p
  split
  · exact fd_aa _
  · exact fd_aa _
/-- the value that the law's pieces give a set -/
def fd_G (lo hi : Int32) : Int32 → Int32 := fd_F (fd_p lo hi) 8
theorem fd_G_L (lo hi : Int32) : fd_L (fd_G lo hi) := fd_F_L _ (fd_p_R lo hi)
theorem fd_G1 (lo hi : Int32) {k : Nat} (hk : k < 8) : fd_G lo hi ((1 : Int32) <<< (nI k &&& 31)) = fd_p lo hi k := by
  unfold fd_G
  rw [fd_F_one _ hk 8 (Nat.le_refl 8), if_pos hk]
theorem fd_S8 (g : Nat) {k : Nat} (hk : k < 8) : fd_S g (k + 1) k = ((2 : Int32) <<< (nI k &&& 31)) - 1 := by
  unfold fd_S
  rw [if_pos (by omega), if_pos hk]
theorem fd_l560 {post : Int32 → St0 → Prop} {mc ms kc ks : Nat} {F : Int32 → Int32} (hF : fd_L F) {g : Nat} (hg : g < 8) {x11 : Int32} (hx : x11 = F ((1 : Int32) <<< (nI g &&& 31))) {u : St2} (h : fd_ok F (fd_S g 10) (fd_Q g) u) (H : post 1 ()) : wL_lawOf_560 post mc ms (nI g) x11 1 kc ks u.1 u.2.1 u.2.2.1 u.2.2.2.1 u.2.2.2.2.1 u.2.2.2.2.2.1 u.2.2.2.2.2.2.1 u.2.2.2.2.2.2.2.1 u.2.2.2.2.2.2.2.2 := by
  have hx1 : x11 &&& 255 = x11 := by rw [hx]; exact hF.2.2 _
  have hx2 : (x11 ^^^ 1) &&& 255 = x11 ^^^ 1 := by rw [fd_ax, hx1]; rfl
  unfold wL_lawOf_560
  refine fd_drop1 (k := 8) h (by omega) (fd_U9 g hg).2.2 rfl (fun u1 h1 => ?_)
  obtain ⟨p1, q1, r1, l1, m1, b11, b12, b13, b14⟩ := u1
  have h1 : fd_ok F (fd_S g 10) (fd_Q2 g) (p1, q1, r1, l1, m1, b11, b12, b13, b14) := h1
  dsimp only
  have er := fd_T6r g hg
  have es := fd_T6s g hg
  have ep := fd_T6p g hg
  refine pk_eq g 7 (fun z => ?_) (fun z => ?_)
  · rw [if_pos z] at er es
    unfold wL_lawOf_594
    refine pk_eq g 7 (fun _ => ?_) (fun y => absurd z y)
    unfold wL_lawOf_608
    refine br_f (by decide) (br_f (by decide) (fd_missing hF h1 (fun u2 h2 => ?_)))
    obtain ⟨p2, q2, r2, l2, m2, b21, b22, b23, b24⟩ := u2
    dsimp only
    rw [er]
    refine br_f (by decide) ?_
    unfold wL_lawOf_635
    refine br_t rfl (fd_known hF h2 (fun u3 h3 => ?_))
    obtain ⟨p3, q3, r3, l3, m3, b31, b32, b33, b34⟩ := u3
    dsimp only
    refine br_t es (fd_possible1 hF h3 hg (ep.mpr z) hx (fun u4 h4 => ?_))
    obtain ⟨p4, q4, r4, l4, m4, b41, b42, b43, b44⟩ := u4
    dsimp only
    exact br_f (by decide) (br_f (by decide) H)
  · rw [if_neg z] at er es
    unfold wL_lawOf_594
    refine pk_eq g 7 (fun y => absurd y z) (fun _ => ?_)
    unfold wL_lawOf_608
    refine br_f (by decide) (br_f (by decide) (fd_missing hF h1 (fun u2 h2 => ?_)))
    obtain ⟨p2, q2, r2, l2, m2, b21, b22, b23, b24⟩ := u2
    dsimp only
    rw [er]
    refine br_t rfl ?_
    unfold wL_lawOf_635
    refine br_t rfl (fd_known hF h2 (fun u3 h3 => ?_))
    obtain ⟨p3, q3, r3, l3, m3, b31, b32, b33, b34⟩ := u3
    dsimp only
    refine br_t es (fd_possible0 hF h3 hg (fun y => z (ep.mp y)) hx1 (fun u4 h4 => ?_))
    obtain ⟨p4, q4, r4, l4, m4, b41, b42, b43, b44⟩ := u4
    dsimp only
    refine br_f (by decide) (br_t rfl (fd_possible0 hF h4 hg (fun y => z (ep.mp y)) hx2 (fun u5 h5 => ?_)))
    obtain ⟨p5, q5, r5, l5, m5, b51, b52, b53, b54⟩ := u5
    exact br_f (by decide) H
theorem fd_l503 {post : Int32 → St0 → Prop} {mc ms kc ks : Nat} {F : Int32 → Int32} (hF : fd_L F) {g : Nat} (hg : g < 8) {x11 : Int32} (hx : x11 = F ((1 : Int32) <<< (nI g &&& 31))) {u : St2} (h : fd_ok F (fd_S g 10) (fd_P 10) u) (H : post 1 ()) : wL_lawOf_503 post mc ms (nI g) x11 1 kc ks u.1 u.2.1 u.2.2.1 u.2.2.2.1 u.2.2.2.2.1 u.2.2.2.2.2.1 u.2.2.2.2.2.2.1 u.2.2.2.2.2.2.2.1 u.2.2.2.2.2.2.2.2 := by
  unfold wL_lawOf_503
  refine fd_drop1 h (by omega) (fd_U9 g hg).1 rfl (fun u1 h1 => ?_)
  obtain ⟨p1, q1, r1, l1, m1, b11, b12, b13, b14⟩ := u1
  have h1 : fd_ok F (fd_S g 10) (fd_Q g) (p1, q1, r1, l1, m1, b11, b12, b13, b14) := h1
  dsimp only
  refine br_f (by decide) (br_f (by decide) (fd_known hF h1 (fun u2 h2 => ?_)))
  obtain ⟨p2, q2, r2, l2, m2, b21, b22, b23, b24⟩ := u2
  dsimp only
  refine br_t (fd_T5 g hg) (fd_drop0 h2 (by omega) (fd_U9 g hg).2.1 (fun u3 h3 => ?_))
  obtain ⟨p3, q3, r3, l3, m3, b31, b32, b33, b34⟩ := u3
  dsimp only
  refine br_t rfl (fd_idleN h3 (by omega) (fd_U9 g hg).2.1 (fun u4 h4 => ?_))
  obtain ⟨p4, q4, r4, l4, m4, b41, b42, b43, b44⟩ := u4
  dsimp only
  exact br_t rfl (fd_l560 hF hg hx h4 H)
theorem fd_S9 (g : Nat) : fd_S g 9 8 = (1 : Int32) <<< (nI g &&& 31) := rfl
theorem fd_S10 (g : Nat) : fd_S g 10 9 = 255 := rfl
theorem fd_l305 {post : Int32 → St0 → Prop} {mc ms kc ks : Nat} {lo hi : Int32} {g : Nat} (hg : g < 8) {u : St2} (h : fd_ok (fd_G lo hi) (fd_S g 8) (fd_P 8) u) (H : post 1 ()) : wL_lawOf_305 post mc ms lo hi (nI g) (fd_G lo hi (fd_P 8)) 1 kc ks u.1 u.2.1 u.2.2.1 u.2.2.2.1 u.2.2.2.2.1 u.2.2.2.2.2.1 u.2.2.2.2.2.2.1 u.2.2.2.2.2.2.2.1 u.2.2.2.2.2.2.2.2 := by
  have hF := fd_G_L lo hi
  unfold wL_lawOf_305
  refine fd_pc lo hi g ?_
  refine fd_take hF h (fd_U8 g hg).1 (fd_U8 g hg).2.1 (fd_U8 g hg).2.2 (fd_G1 lo hi hg).symm (k := 8) (by omega) (fd_U2 8 (by omega)) (fd_U3 8 (by omega)) (S' := fd_S g 9) (P' := fd_P 9) (fun i _ => fd_S_next g 8 i) (fd_U4 8 (by omega)) (fd_B hg (by omega)) (fun u1 h1 => ?_)
  obtain ⟨p1, q1, r1, l1, m1, b11, b12, b13, b14⟩ := u1
  dsimp only
  refine fd_take hF h1 (s := 255) (by decide) (by decide) (by decide) rfl (k := 9) (by omega) (fd_U2 9 (by omega)) (fd_U3 9 (by omega)) (S' := fd_S g 10) (P' := fd_P 10) (fun i _ => fd_S_next g 9 i) (fd_U4 9 (by omega)) (fd_B hg (by omega)) (fun u2 h2 => ?_)
  obtain ⟨p2, q2, r2, l2, m2, b21, b22, b23, b24⟩ := u2
  dsimp only
  refine fd_pc lo hi 0 ?_
  have e2 : p2 = fd_P 10 := h2.1
  refine fd_take_full (by decide) (by decide) (fd_p_R lo hi 0) (by dsimp only; rw [e2]; exact fd_U2 10 (by omega)) ?_
  dsimp only
  refine br_f (by decide) (br_t rfl (br_t rfl (br_t rfl ?_)))
  refine fd_take_b1 (by decide) ?_
  dsimp only
  refine br_t rfl (fd_take_b2 (by decide) (by decide) ?_)
  dsimp only
  refine br_t rfl (fd_take_b3 (by decide) (by decide) (by decide) (by decide) ?_)
  dsimp only
  refine br_t rfl (fd_idle1 hF h2 (k := 9) (by omega) (fd_U2 10 (by omega) 9 (by omega)) (fd_T4i g hg 9 (by omega) (by omega)) (fun u3 h3 => ?_))
  obtain ⟨p3, q3, r3, l3, m3, b31, b32, b33, b34⟩ := u3
  dsimp only
  refine br_f (by decide) (fd_idle1 hF h3 (k := 7) (by omega) (fd_U2 10 (by omega) 7 (by omega)) (fd_T4i g hg 7 (by omega) (by omega)) (fun u4 h4 => ?_))
  obtain ⟨p4, q4, r4, l4, m4, b41, b42, b43, b44⟩ := u4
  dsimp only
  refine br_f (by decide) (fd_idle1 hF h4 (k := 8) (by omega) (fd_U2 10 (by omega) 8 (by omega)) (fd_T4i g hg 8 (by omega) (by omega)) (fun u5 h5 => ?_))
  obtain ⟨p5, q5, r5, l5, m5, b51, b52, b53, b54⟩ := u5
  dsimp only
  refine br_f (by decide) (fd_enough1 hF h5 (fd_T4a g hg) (fun u6 h6 => ?_))
  obtain ⟨p6, q6, r6, l6, m6, b61, b62, b63, b64⟩ := u6
  dsimp only
  refine br_f (by decide) (fd_enough1 hF h6 (fd_T4b g hg) (fun u7 h7 => ?_))
  obtain ⟨p7, q7, r7, l7, m7, b71, b72, b73, b74⟩ := u7
  dsimp only
  refine br_f (by decide) (fd_enough0 hF h7 (fd_T4c g hg) (fun u8 h8 => ?_))
  obtain ⟨p8, q8, r8, l8, m8, b81, b82, b83, b84⟩ := u8
  dsimp only
  refine br_t rfl (fd_drops h8 (br_t (by decide) ?_))
  exact fd_l503 hF hg (fd_G1 lo hi hg).symm h8 H
theorem fd_l242 {post : Int32 → St0 → Prop} {mc ms kc ks : Nat} {lo hi : Int32} {g t : Nat} (hg : g < 8) (ht : t < 256) {z : Int32} (hz : z = fd_G lo hi (nI t ||| 1) ^^^ 1) {u : St2} (h : fd_ok (fd_G lo hi) (fd_S g 8) (fd_P 8) u) (H : post 1 ()) : wL_lawOf_242 post mc ms lo hi (nI g) (nI t) 1 (fd_G lo hi (fd_P 8)) (fd_G lo hi (nI t)) z kc ks u.1 u.2.1 u.2.2.1 u.2.2.2.1 u.2.2.2.2.1 u.2.2.2.2.2.1 u.2.2.2.2.2.2.1 u.2.2.2.2.2.2.2.1 u.2.2.2.2.2.2.2.2 := by
  have hF := fd_G_L lo hi
  obtain ⟨t1, t2, t3, t4, t5, t6⟩ := fd_U6 t ht
  have eb : fd_bd (fd_S g 8) (fd_P 8) 10 = (fd_I 8, nI (min 8 8)) := fd_T1 g hg 8 (by omega)
  have z0 : ∀ j, j < 256 → fd_rd (fd_bd (fd_S g 8) (fd_P 8) 10).1 8 (nI j) = 0 := by rw [eb]; exact fd_T3
  have z1 : fd_rd (fd_bd (fd_S g 8) (fd_P 8) 10).1 8 (nI t ||| 1) = 0 := by rw [t5]; exact z0 _ t6
  have z8 : fd_on (fd_sg (fd_bd (fd_S g 8) (fd_P 8) 10).1 8) 8 = 8 := by rw [eb]; decide +kernel
  have zr : z &&& 255 = z := by rw [hz, fd_ax, hF.2.2]; rfl
  unfold wL_lawOf_242
  refine br_f (by decide) (fd_sum hF h t1 t2 (z0 t ht) (fun u1 h1 => ?_))
  obtain ⟨p1, q1, r1, l1, m1, b11, b12, b13, b14⟩ := u1
  dsimp only
  refine br_t rfl (fd_take_ref hF h1 t3 t4 hz zr (by decide) z1 (k := 8) (by omega) (fd_U2 8 (by omega)) (fd_U3 8 (by omega)) (fun u2 h2 => ?_))
  obtain ⟨p2, q2, r2, l2, m2, b21, b22, b23, b24⟩ := u2
  dsimp only
  refine br_t rfl (fd_bestSet hF h2 z0 z8 (fun u3 h3 => ?_))
  obtain ⟨p3, q3, r3, l3, m3, b31, b32, b33, b34⟩ := u3
  dsimp only
  refine br_t rfl (fd_knownWith hF h3 t3 t4 z1 (fun u4 h4 => ?_))
  obtain ⟨p4, q4, r4, l4, m4, b41, b42, b43, b44⟩ := u4
  dsimp only
  exact br_t z8 (fd_l305 hg h4 H)
theorem fd_l164 {post : Int32 → St0 → Prop} {mc ms kc ks : Nat} {lo hi : Int32} {g t : Nat} (hg : g < 8) (ht : t < 256) {u : St2} (h : fd_ok (fd_G lo hi) (fd_S g 8) (fd_P 8) u) (H : post 1 ()) : ∃ n, wL_lawOf_164 post mc ms lo hi (nI g) (nI t) (fd_G lo hi (fd_P 8)) (fd_G lo hi (nI t)) kc ks n 1 0 u.1 u.2.1 u.2.2.1 u.2.2.2.1 u.2.2.2.2.1 u.2.2.2.2.2.1 u.2.2.2.2.2.2.1 u.2.2.2.2.2.2.2.1 u.2.2.2.2.2.2.2.2 := by
  have hF := fd_G_L lo hi
  refine pk_loop (fun n i (s : St2) => wL_lawOf_164 post mc ms lo hi (nI g) (nI t) (fd_G lo hi (fd_P 8)) (fd_G lo hi (nI t)) kc ks n 1 (nI i) s.1 s.2.1 s.2.2.1 s.2.2.2.1 s.2.2.2.2.1 s.2.2.2.2.2.1 s.2.2.2.2.2.2.1 s.2.2.2.2.2.2.2.1 s.2.2.2.2.2.2.2.2)
    (fun _ s => fd_ok (fd_G lo hi) (fd_S g 8) (fd_P 8) s) 8 0 u (by omega) h ?_ ?_
  · intro n s hs
    refine pk_le 8 8 (fun _ => br_c (fun c => fd_l242 hg ht ?_ hs H) (fun c => fd_pc lo hi 0 (fd_l242 hg ht ?_ hs H))) (fun z => absurd z (by omega))
    · rw [(fd_U7 t ht).1 c]
    · rw [(fd_U7 t ht).2 c, hF.1, fd_G1 lo hi (by omega)]
  · intro n i s hi' hs hw
    have ep : (fd_bd (fd_S g 8) (fd_P 8) 10).1.getD i 0 = ((1 : Int32) <<< (nI i &&& 31)) := by
      rw [fd_T1 g hg 8 (by omega)]
      exact fd_T1p i hi'
    refine pk_le 8 i (fun z => absurd z (by omega)) (fun _ => br_f (by decide) (fd_piece1 hF hs hi' ep (fun u1 h1 => ?_)))
    obtain ⟨p1, q1, r1, l1, m1, b11, b12, b13, b14⟩ := u1
    dsimp only
    refine fd_pc lo hi i (br_t (fd_G1 lo hi hi') (fd_idle0 hF h1 (by omega) (fd_U2 8 (by omega) i hi') (fd_T2 g hg i hi') (fun u2 h2 => ?_)))
    obtain ⟨p2, q2, r2, l2, m2, b21, b22, b23, b24⟩ := u2
    dsimp only
    exact br_t rfl (nm_r (nI_1 i) (hw _ h2))
theorem fd_l78 {post : Int32 → St0 → Prop} {mc ms kc ks : Nat} {F : Int32 → Int32} (hF : fd_L F) {g k : Nat} (hg : g < 8) (hk : k < 8) {J : Int32 → Int32 → Int32 → Int32 → Int32 → Int32 → Int32 → Int32 → Int32 → (Nat → Int32) → (Nat → Int32) → (Nat → Int32) → (Nat → Int32) → Prop} {x0 x1 x5 x6 x8 z0 : Int32} {u : St2} (h : fd_ok F (fd_S g k) (fd_P k) u) (h8 : x8 = F (((2 : Int32) <<< (nI k &&& 31)) - 1))
    (H : ∀ u' : St2, fd_ok F (fd_S g (k + 1)) (fd_P (k + 1)) u' → J 1 x8 z0 (nI (k + 1)) u'.1 u'.2.1 u'.2.2.1 u'.2.2.2.1 u'.2.2.2.2.1 u'.2.2.2.2.2.1 u'.2.2.2.2.2.2.1 u'.2.2.2.2.2.2.2.1 u'.2.2.2.2.2.2.2.2) : wL_lawOf_78 post mc ms J x0 x1 x5 x6 1 x8 (nI k) z0 kc ks u.1 u.2.1 u.2.2.1 u.2.2.2.1 u.2.2.2.2.1 u.2.2.2.2.2.1 u.2.2.2.2.2.2.1 u.2.2.2.2.2.2.2.1 u.2.2.2.2.2.2.2.2 := by
  have eb := fd_T1 g hg (k + 1) (by omega)
  obtain ⟨n1, n2, n3⟩ := fd_U1 k hk
  obtain ⟨w1, w2, w3, w4⟩ := fd_U5 k hk
  unfold wL_lawOf_78
  refine fd_take hF h n1 n2 n3 h8 (k := k) (by omega) (fd_U2 k (by omega)) (fd_U3 k (by omega)) (S' := fd_S g (k + 1)) (P' := fd_P (k + 1)) (fun i _ => by rw [fd_S_next g k i, fd_S8 g hk]) (fd_U4 k (by omega)) (by rw [fd_B hg (by omega), fd_S8 g hk]) (fun u1 h1 => ?_)
  obtain ⟨p1, q1, r1, l1, m1, b11, b12, b13, b14⟩ := u1
  dsimp only
  refine br_f (by decide) (br_t rfl (fd_missing hF h1 (fun u2 h2 => ?_)))
  obtain ⟨p2, q2, r2, l2, m2, b21, b22, b23, b24⟩ := u2
  dsimp only
  rw [eb]
  refine br_t w3 (fd_known hF h2 (fun u3 h3 => ?_))
  obtain ⟨p3, q3, r3, l3, m3, b31, b32, b33, b34⟩ := u3
  dsimp only
  rw [eb]
  refine br_t ((fd_T1s (k + 1) (by omega)).trans w2) (fd_knownSums hF h3 (fun u4 h4 => ?_))
  obtain ⟨p4, q4, r4, l4, m4, b41, b42, b43, b44⟩ := u4
  dsimp only
  rw [eb]
  exact br_t w4 (nm_r (nI_1 k) (H _ h4))
theorem fd_l34 {post : Int32 → St0 → Prop} {mc ms kc ks : Nat} {lo hi : Int32} {g t : Nat} (hg : g < 8) (ht : t < 256) {u : St2} (h : fd_ok (fd_G lo hi) (fd_S g 0) (fd_P 0) u) (H : post 1 ()) : ∃ n, wL_lawOf_34 post mc ms lo hi (nI g) (nI t) kc ks n 1 0 0 0 u.1 u.2.1 u.2.2.1 u.2.2.2.1 u.2.2.2.2.1 u.2.2.2.2.2.1 u.2.2.2.2.2.2.1 u.2.2.2.2.2.2.2.1 u.2.2.2.2.2.2.2.2 := by
  have hF := fd_G_L lo hi
  refine pk_loop (fun n i (s : Int32 × St2) => wL_lawOf_34 post mc ms lo hi (nI g) (nI t) kc ks n 1 s.1 (fd_F (fd_p lo hi) i (nI t)) (nI i) s.2.1 s.2.2.1 s.2.2.2.1 s.2.2.2.2.1 s.2.2.2.2.2.1 s.2.2.2.2.2.2.1 s.2.2.2.2.2.2.2.1 s.2.2.2.2.2.2.2.2.1 s.2.2.2.2.2.2.2.2.2)
    (fun i s => s.1 = fd_G lo hi (fd_P i) ∧ fd_ok (fd_G lo hi) (fd_S g i) (fd_P i) s.2) 8 0 (0, u) (by omega) ⟨(fd_F0 hF).symm, h⟩ ?_ ?_
  · intro n s hs
    obtain ⟨x8, s⟩ := s
    obtain ⟨e, hs⟩ := hs
    dsimp only at e hs
    subst e
    exact pk_le 8 8 (fun _ => fd_l164 hg ht hs H) (fun z => absurd z (by omega))
  · intro n i s hi' hs hw
    obtain ⟨x8, s⟩ := s
    obtain ⟨e, hs⟩ := hs
    dsimp only at e hs
    have e8 : x8 ^^^ fd_p lo hi i = fd_G lo hi (((2 : Int32) <<< (nI i &&& 31)) - 1) := by
      rw [e, ← fd_G1 lo hi hi', ← hF.1, (fd_U5 i hi').1]
    have main : wL_lawOf_78 post mc ms (wL_lawOf_34 post mc ms lo hi (nI g) (nI t) kc ks n) lo hi (nI g) (nI t) 1 (fd_G lo hi (((2 : Int32) <<< (nI i &&& 31)) - 1)) (nI i) (fd_F (fd_p lo hi) (i + 1) (nI t)) kc ks s.1 s.2.1 s.2.2.1 s.2.2.2.1 s.2.2.2.2.1 s.2.2.2.2.2.1 s.2.2.2.2.2.2.1 s.2.2.2.2.2.2.2.1 s.2.2.2.2.2.2.2.2 :=
      fd_l78 hF hg hi' hs rfl (fun u' hu => hw (fd_G lo hi (((2 : Int32) <<< (nI i &&& 31)) - 1), u') ⟨congrArg (fd_G lo hi) (fd_U5 i hi').2.1.symm, hu⟩)
    refine pk_le 8 i (fun z => absurd z (by omega)) (fun _ => fd_pc lo hi i (nm_r e8 ?_))
    by_cases hb : (nI t).toBitVec.getLsbD i = true
    · have z : fd_F (fd_p lo hi) (i + 1) (nI t) = fd_F (fd_p lo hi) i (nI t) ^^^ fd_p lo hi i := by
        show fd_F (fd_p lo hi) i (nI t) ^^^ (if (nI t).toBitVec.getLsbD i then fd_p lo hi i else 0) = _
        rw [if_pos hb]
      rw [z] at main
      exact br_t (by rw [fd_bit _ _ (by omega), if_pos hb]) main
    · have z : fd_F (fd_p lo hi) (i + 1) (nI t) = fd_F (fd_p lo hi) i (nI t) := by
        show fd_F (fd_p lo hi) i (nI t) ^^^ (if (nI t).toBitVec.getLsbD i then fd_p lo hi i else 0) = _
        rw [if_neg hb, Int32.xor_zero]
      rw [z] at main
      exact br_f (by rw [fd_bit _ _ (by omega), if_neg hb]; decide) main
theorem fd_lawOf {post : Int32 → St0 → Prop} (p0 p1 p2 p3 : Int32) (H : post 1 ()) : wpL_lawOf post 24 384 () p0 p1 p2 p3 := by
  obtain ⟨g, hg, eg⟩ := pk_andE p2 (m := 7) 3 (by decide)
  obtain ⟨t, ht, et⟩ := pk_andE p3 (m := 255) 8 (by decide)
  refine ⟨by omega, by omega, 4, 36, by omega, by omega, ?_⟩
  refine ⟨by omega, by omega, by omega, by omega, by omega, by omega, by omega, by omega, ?_⟩
  refine nm_r eg (nm_r et ?_)
  refine fd_l34 (u := (0, 0, 0, 0, 0, (fun _ => 0), (fun _ => 0), (fun _ => 0), (fun _ => 0))) hg ht ⟨rfl, fun j hj => ?_, fun z => absurd rfl z⟩ H
  exact ⟨rfl, (fd_F0 (fd_G_L p0 p1)).symm⟩
end
section
/-! what is owed -/
theorem fd_cell {post : Int32 → Prop} (L : Nat) (hL : L ≤ 4) (xs : Nat → Int32) (k : Nat) (hk : k < 4) (H : ∀ x, post x) : wpL_cellAt post L xs () (nI k) :=
  pk_le L k (fun _ => H _) (fun z => ⟨vp_in_nI z (by omega), H _⟩)
theorem i_vc (xs : Nat → Int32) (L : Nat) (hL : L ≤ 4) : wpL_law (fun r => r = 1) L xs := by
  refine fd_cell L hL xs 0 (by omega) (fun x0 => ?_)
  refine fd_cell L hL xs 1 (by omega) (fun x1 => ?_)
  refine fd_cell L hL xs 2 (by omega) (fun x2 => ?_)
  refine fd_cell L hL xs 3 (by omega) (fun x3 => ?_)
  exact ⟨24, 384, by omega, by omega, fd_lawOf x0 x1 x2 x3 rfl⟩
end
