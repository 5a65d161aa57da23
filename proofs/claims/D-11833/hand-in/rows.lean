section
/-- what a code means: below 100 the number itself, from 100 on a value of the script -/
def ie_en (x c d : Int32) (n : Nat) : Int32 :=
  if n = 0 then x else if n = 1 then x + c else if n = 2 then x + d else if n = 3 then x + c + d else if n = 4 then c else d
def ie_ev (x c d : Int32) (n : Nat) : Int32 := if n < 100 then nI n else ie_en x c d (n - 100)
def ie_g (s : List Nat) (k : Nat) : Nat := s.getD k 0
/-- a program: sizes, operations, first and second arguments (codes) -/
abbrev ie_Pg : Type := List Nat × List Nat × List Nat × List Nat
/-- a level: cells (codes), asleep, to try, tried -/
abbrev ie_Fr : Type := List Nat × Nat × Nat × Nat
/-- what was found: the ends, whether something sticks -/
abbrev ie_Ac : Type := List (List Nat) × Bool
def ie_sz (P : ie_Pg) (t : Nat) : Nat := ie_g P.1 t
def ie_op (P : ie_Pg) (i : Nat) : Nat := ie_g P.2.1 i
def ie_A (P : ie_Pg) (i : Nat) : Nat := ie_g P.2.2.1 i
def ie_B (P : ie_Pg) (i : Nat) : Nat := ie_g P.2.2.2 i
def ie_fin (P : ie_Pg) (s : List Nat) (t : Nat) : Bool := decide (ie_sz P t ≤ ie_g s (10 + t))
def ie_ni (s : List Nat) (t : Nat) : Nat := t * 5 + ie_g s (10 + t)
def ie_go1 (o a : Nat) (w : Bool) (s : List Nat) : Bool :=
  if o = 4 then decide (ie_g s (13 + a) = 0) else if o = 8 then w else true
def ie_go (P : ie_Pg) (w : Bool) (s : List Nat) (t : Nat) : Bool :=
  cond (ie_fin P s t) false (ie_go1 (ie_op P (ie_ni s t)) (ie_A P (ie_ni s t)) w s)
def ie_bn (b : Bool) (n : Nat) : Nat := cond b n 0
def ie_b (b : Bool) : Int32 := cond b 1 0
def ie_able (P : ie_Pg) (w : Bool) (s : List Nat) : Nat := 0 + ie_bn (ie_go P w s 0) (2 ^ 0) + ie_bn (ie_go P w s 1) (2 ^ 1) + ie_bn (ie_go P w s 2) (2 ^ 2)
def ie_all (P : ie_Pg) (s : List Nat) : Bool := ie_fin P s 0 && ie_fin P s 1 && ie_fin P s 2
def ie_addc (a b : Nat) : Nat :=
  if a = 100 then (if b = 104 then 101 else if b = 105 then 102 else 0)
  else if a = 101 then (if b = 105 then 103 else 0)
  else if a = 102 then (if b = 104 then 103 else 0) else 0
/-- an instruction (operation o, arguments a and b) of thread t on cells s -/
def ie_pf1 (o a b t : Nat) (s : List Nat) : List Nat :=
  if o = 0 then s.set (4 + t * 2 + a) (ie_g s b)
  else if o = 1 then s.set b (ie_g s (4 + t * 2 + a))
  else if o = 2 then s.set (4 + t * 2 + a) (ie_addc (ie_g s (4 + t * 2 + a)) b)
  else if o = 4 then s.set (13 + a) (t + 1)
  else if o = 5 then s.set (13 + a) 0
  else s
def ie_pf (P : ie_Pg) (s : List Nat) (t : Nat) : List Nat :=
  ie_pf1 (ie_op P (ie_ni s t)) (ie_A P (ie_ni s t)) (ie_B P (ie_ni s t)) t (s.set (10 + t) (ie_g s (10 + t) + 1))
/-- checks on a level's cells -/
def ie_ck1 (o a b t : Nat) (s : List Nat) : Bool :=
  if o = 2 then !decide (ie_addc (ie_g s (4 + t * 2 + a)) b = 0)
  else if o = 5 then decide (ie_g s (13 + a) = t + 1)
  else if o = 8 then decide (ie_g s a = 100) && decide (b = 105)
  else true
def ie_ck (P : ie_Pg) (s : List Nat) (t : Nat) : Bool :=
  decide (ie_g s (10 + t) < 50) && (ie_fin P s t || ie_ck1 (ie_op P (ie_ni s t)) (ie_A P (ie_ni s t)) (ie_B P (ie_ni s t)) t s)
def ie_okS (P : ie_Pg) (s : List Nat) : Bool :=
  decide (s.length = 15) && (ie_ck P s 0 && (ie_ck P s 1 && (ie_ck P s 2 && (decide (ie_g s 13 < 50) && decide (ie_g s 14 < 50)))))
/-- checks on a program -/
def ie_okI (P : ie_Pg) (i : Nat) : Prop :=
  ie_A P i < 2 ∧ ((ie_op P i = 0 ∧ ie_B P i < 4) ∨ (ie_op P i = 1 ∧ ie_B P i < 4) ∨ ie_op P i = 2 ∨ ie_op P i = 4 ∨ ie_op P i = 5 ∨ ie_op P i = 8)
def ie_okP (P : ie_Pg) : Prop := (∀ t, t < 3 → ie_sz P t ≤ 5) ∧ ∀ i, i < 15 → ie_okI P i
def ie_tl (o : Nat) : Bool := decide (o = 4) || decide (o = 5)
def ie_vo (o a b : Nat) : Nat := if o = 0 then b else if o = 1 then b else if o = 8 then a else 99
def ie_ind2 (P : ie_Pg) (i j : Nat) : Bool :=
  if ie_vo (ie_op P i) (ie_A P i) (ie_B P i) = 99 then true
  else if ie_vo (ie_op P i) (ie_A P i) (ie_B P i) = ie_vo (ie_op P j) (ie_A P j) (ie_B P j) then !decide (ie_op P i = 1) && !decide (ie_op P j = 1)
  else true
def ie_ind (P : ie_Pg) (i j : Nat) : Bool :=
  cond (ie_tl (ie_op P i)) (cond (ie_tl (ie_op P j)) (!decide (ie_A P i = ie_A P j)) (ie_ind2 P i j)) (ie_ind2 P i j)
def ie_sp (P : ie_Pg) (s : List Nat) (m t u : Nat) : Bool :=
  !decide (u = t) && (!ie_fin P s u && (decide (m / 2 ^ u % 2 = 1) && ie_ind P (ie_ni s u) (ie_ni s t)))
def ie_slp (P : ie_Pg) (s : List Nat) (m t : Nat) : Nat := 0 + ie_bn (ie_sp P s m t 0) (2 ^ 0) + ie_bn (ie_sp P s m t 1) (2 ^ 1) + ie_bn (ie_sp P s m t 2) (2 ^ 2)
def ie_low (n : Nat) : Nat := if n % 2 = 1 then 0 else if n / 2 % 2 = 1 then 1 else 2
def ie_open (P : ie_Pg) (w : Bool) (s : List Nat) (sl : Nat) : ie_Fr := (s, sl, ie_able P w s &&& (7 - sl), 0)
def ie_acc (P : ie_Pg) (w : Bool) (s : List Nat) (a : ie_Ac) : ie_Ac :=
  if ie_able P w s = 0 then cond (ie_all P s) (s :: a.1, a.2) (a.1, true) else a
/-- the search: n rounds of its loop; none: a check failed, or n was too small -/
def ie_run (P : ie_Pg) (w : Bool) : Nat → List ie_Fr → ie_Ac → Option ie_Ac
  | 0, _, _ => none
  | _ + 1, [], a => some a
  | n + 1, f :: fs, a =>
    if f.2.2.1 = 0 then ie_run P w n fs a
    else if ie_okS P f.1 && (decide (fs.length < 11) && (!ie_fin P f.1 (ie_low f.2.2.1) && ie_okS P (ie_pf P f.1 (ie_low f.2.2.1)))) then
      ie_run P w n (ie_open P w (ie_pf P f.1 (ie_low f.2.2.1)) (ie_slp P f.1 (f.2.1 ||| f.2.2.2) (ie_low f.2.2.1)) :: (f.1, f.2.1, f.2.2.1 &&& (7 - 2 ^ ie_low f.2.2.1), f.2.2.2 ||| 2 ^ ie_low f.2.2.1) :: fs)
        (ie_acc P w (ie_pf P f.1 (ie_low f.2.2.1)) a)
    else none
def ie_s0 : List Nat := [0, 100, 0, 0, 0, 0, 0, 0, 0, 0, 0, 0, 0, 0, 0]
def ie_srch (P : ie_Pg) (w : Bool) : Option ie_Ac :=
  if ie_okS P ie_s0 then ie_run P w 200 [ie_open P w ie_s0 0] (ie_acc P w ie_s0 ([], false)) else none
/-- an instruction is emitted -/
def ie_em (P : ie_Pg) (t o a b : Nat) : ie_Pg :=
  (P.1.set t (ie_sz P t + 1), P.2.1.set (t * 5 + ie_sz P t) o, P.2.2.1.set (t * 5 + ie_sz P t) a, P.2.2.2.set (t * 5 + ie_sz P t) b)
def ie_dr (P : ie_Pg) (t : Nat) : ie_Pg := (P.1.set t 0, P.2.1, P.2.2.1, P.2.2.2)
def ie_P0 : ie_Pg := ([0, 0, 0], [0, 0, 0, 0, 0, 0, 0, 0, 0, 0, 0, 0, 0, 0, 0], [0, 0, 0, 0, 0, 0, 0, 0, 0, 0, 0, 0, 0, 0, 0], [0, 0, 0, 0, 0, 0, 0, 0, 0, 0, 0, 0, 0, 0, 0])
def ie_ad (P : ie_Pg) (t b : Nat) (k : Bool) : ie_Pg :=
  cond k (ie_em (ie_em (ie_em (ie_em (ie_em P t 4 0 0) t 0 0 1) t 2 0 b) t 1 0 1) t 5 0 0) (ie_em (ie_em (ie_em P t 0 0 1) t 2 0 b) t 1 0 1)
/-- the law's programs -/
def ie_P1 (k1 k2 : Bool) : ie_Pg := ie_ad (ie_ad ie_P0 0 104 k1) 2 105 k2
def ie_P2 (k1 k2 : Bool) : ie_Pg :=
  ie_em (ie_em (ie_em (ie_em (ie_em (ie_dr (ie_dr (ie_P1 k1 k2) 0) 2) 0 4 0 0) 0 4 1 0) 1 4 (cond k1 0 1) 0) 1 4 (cond k1 1 0) 0) 2 8 1 105
def ie_P3 (k1 k2 : Bool) : ie_Pg := ie_dr (ie_P2 k1 k2) 0
end
section
def ie_e1 (k1 k2 : Bool) : List (List Nat) :=
  cond (k1 && k2)
    [[0, 103, 0, 0, 103, 0, 0, 0, 102, 0, 5, 0, 5, 0, 0], [0, 103, 0, 0, 101, 0, 0, 0, 103, 0, 5, 0, 5, 0, 0]]
    [[0, 103, 0, 0, 103, 0, 0, 0, 102, 0, cond k1 5 3, 0, cond k2 5 3, 0, 0], [0, 101, 0, 0, 101, 0, 0, 0, 102, 0, cond k1 5 3, 0, cond k2 5 3, 0, 0],
     [0, 102, 0, 0, 101, 0, 0, 0, 102, 0, cond k1 5 3, 0, cond k2 5 3, 0, 0], [0, 103, 0, 0, 101, 0, 0, 0, 103, 0, cond k1 5 3, 0, cond k2 5 3, 0, 0]]
def ie_e3 (w : Bool) : List (List Nat) := cond w [[0, 100, 0, 0, 0, 0, 0, 0, 0, 0, 0, 2, 1, 2, 2]] []
theorem ie_r1 (k1 k2 w : Bool) : ie_srch (ie_P1 k1 k2) w = some (ie_e1 k1 k2, false) := by
  cases k1 <;> cases k2 <;> cases w <;> decide +kernel
theorem ie_r2 (k1 k2 w : Bool) : ie_srch (ie_P2 k1 k2) w = some ([], true) := by
  cases k1 <;> cases k2 <;> cases w <;> decide +kernel
theorem ie_r3 (k1 k2 w : Bool) : ie_srch (ie_P3 k1 k2) w = some (ie_e3 w, !w) := by
  cases k1 <;> cases k2 <;> cases w <;> decide +kernel
theorem ie_o1 (k1 k2 : Bool) : ie_okP (ie_P1 k1 k2) := by
  unfold ie_okP ie_okI
  cases k1 <;> cases k2 <;> decide +kernel
theorem ie_o2 (k1 k2 : Bool) : ie_okP (ie_P2 k1 k2) := by
  unfold ie_okP ie_okI
  cases k1 <;> cases k2 <;> decide +kernel
theorem ie_o3 (k1 k2 : Bool) : ie_okP (ie_P3 k1 k2) := by
  unfold ie_okP ie_okI
  cases k1 <;> cases k2 <;> decide +kernel
end
section
/-- cells s lie at b of the array -/
def ie_C (x c d : Int32) (s : List Nat) (b : Nat) (a6 : Nat → Int32) : Prop := s.length = 15 ∧ ∀ k, k < 15 → a6 (b + k) = ie_ev x c d (ie_g s k)
/-- the program lies in the arrays -/
def ie_Q (x c d : Int32) (P : ie_Pg) (a1 a2 a3 a4 : Nat → Int32) : Prop :=
  (∀ t, t < 3 → a1 t = nI (ie_sz P t)) ∧ ∀ i, i < 15 → a2 i = nI (ie_op P i) ∧ a3 i = nI (ie_A P i) ∧ a4 i = ie_ev x c d (ie_B P i)
theorem ie_ev_c {x c d : Int32} {n : Nat} (h : n < 100) : ie_ev x c d n = nI n := if_pos h
theorem ie_gs {s : List Nat} {k z : Nat} (h : k < s.length) : ie_g (s.set k z) k = z := by
  unfold ie_g
  rw [List.getD_eq_getElem?_getD, List.getElem?_set_self h]
  rfl
theorem ie_gn {s : List Nat} {k j z : Nat} (h : j ≠ k) : ie_g (s.set k z) j = ie_g s j := by
  unfold ie_g
  rw [List.getD_eq_getElem?_getD, List.getElem?_set_ne (fun e => h e.symm), List.getD_eq_getElem?_getD]
theorem ie_C_set {x c d : Int32} {s : List Nat} {b k z : Nat} {a : Nat → Int32} {v : Int32} (h : ie_C x c d s b a) (hk : k < 15) (hz : v = ie_ev x c d z) :
    ie_C x c d (s.set k z) b (upd a (b + k) v) := by
  refine ⟨by rw [List.length_set]; exact h.1, fun j hj => ?_⟩
  by_cases e : j = k
  · subst e
    rw [pk_us, hz, ie_gs (by rw [h.1]; exact hj)]
  · rw [pk_un (by omega), h.2 j hj, ie_gn e]
theorem ie_and1 : ∀ a, a < 2 → nI a &&& 1 = nI a := by decide +kernel
theorem ie_and3 : ∀ a, a < 4 → nI a &&& 3 = nI a := by decide +kernel
theorem ie_or : ∀ u, u < 3 → ∀ m, m < 2 ^ u → nI m ||| ((1 : Int32) <<< (nI u &&& 31)) = nI (m + 2 ^ u) := by decide +kernel
theorem ie_or8 : ∀ u, u < 3 → ∀ m, m < 8 → nI m ||| ((1 : Int32) <<< (nI u &&& 31)) = nI (m ||| 2 ^ u) ∧ m ||| 2 ^ u < 8 := by decide +kernel
theorem ie_an8 : ∀ u, u < 3 → ∀ m, m < 8 → nI m &&& (((1 : Int32) <<< (nI u &&& 31)) ^^^ (-1)) = nI (m &&& (7 - 2 ^ u)) ∧ m &&& (7 - 2 ^ u) < 8 := by decide +kernel
theorem ie_andn : ∀ m, m < 8 → ∀ n, n < 8 → nI m &&& (nI n ^^^ (-1)) = nI (m &&& (7 - n)) ∧ m &&& (7 - n) < 8 := by decide +kernel
theorem ie_oor : ∀ m, m < 8 → ∀ n, n < 8 → nI m ||| nI n = nI (m ||| n) ∧ m ||| n < 8 := by decide +kernel
theorem ie_bit : ∀ u, u < 3 → ∀ m, m < 8 → (nI m >>> (nI u &&& 31)) &&& 1 = nI (m / 2 ^ u % 2) := by decide +kernel
theorem ie_bnl (b : Bool) (n : Nat) : ie_bn b n ≤ n := by
  cases b
  · exact Nat.zero_le n
  · exact Nat.le_refl n
theorem ie_able_lt (P : ie_Pg) (w : Bool) (s : List Nat) : ie_able P w s < 8 := by
  have h0 := ie_bnl (ie_go P w s 0) (2 ^ 0)
  have h1 := ie_bnl (ie_go P w s 1) (2 ^ 1)
  have h2 := ie_bnl (ie_go P w s 2) (2 ^ 2)
  unfold ie_able
  omega
theorem ie_slp_lt (P : ie_Pg) (s : List Nat) (m t : Nat) : ie_slp P s m t < 8 := by
  have h0 := ie_bnl (ie_sp P s m t 0) (2 ^ 0)
  have h1 := ie_bnl (ie_sp P s m t 1) (2 ^ 1)
  have h2 := ie_bnl (ie_sp P s m t 2) (2 ^ 2)
  unfold ie_slp
  omega
theorem ie_okS_len {P : ie_Pg} {s : List Nat} (h : ie_okS P s = true) : s.length = 15 := by
  simp only [ie_okS, Bool.and_eq_true, decide_eq_true_eq] at h
  exact h.1
theorem ie_okS_lock {P : ie_Pg} {s : List Nat} (h : ie_okS P s = true) {a : Nat} (ha : a < 2) : ie_g s (13 + a) < 50 := by
  simp only [ie_okS, Bool.and_eq_true, decide_eq_true_eq] at h
  obtain ⟨_, _, _, _, h13, h14⟩ := h
  rcases (show a = 0 ∨ a = 1 by omega) with e | e
  · subst e
    exact h13
  · subst e
    exact h14
theorem ie_okS_ck {P : ie_Pg} {s : List Nat} (h : ie_okS P s = true) {t : Nat} (ht : t < 3) : ie_ck P s t = true := by
  simp only [ie_okS, Bool.and_eq_true] at h
  obtain ⟨_, h0, h1, h2, _⟩ := h
  rcases (show t = 0 ∨ t = 1 ∨ t = 2 by omega) with e | e | e
  · subst e
    exact h0
  · subst e
    exact h1
  · subst e
    exact h2
theorem ie_ck_p {P : ie_Pg} {s : List Nat} {t : Nat} (h : ie_ck P s t = true) : ie_g s (10 + t) < 50 := by
  simp only [ie_ck, Bool.and_eq_true, decide_eq_true_eq] at h
  exact h.1
theorem ie_ck_i {P : ie_Pg} {s : List Nat} {t : Nat} (h : ie_ck P s t = true) (hf : ie_fin P s t = false) :
    ie_ck1 (ie_op P (ie_ni s t)) (ie_A P (ie_ni s t)) (ie_B P (ie_ni s t)) t s = true := by
  simp only [ie_ck, Bool.and_eq_true, hf, Bool.false_or] at h
  exact h.2
theorem ie_ni_lt {P : ie_Pg} {s : List Nat} {t : Nat} (hok : ie_okP P) (ht : t < 3) (hf : ie_fin P s t = false) : ie_ni s t < 15 := by
  have h5 := hok.1 t ht
  have h : ¬ ie_sz P t ≤ ie_g s (10 + t) := of_decide_eq_false hf
  unfold ie_ni
  omega
theorem ie_15 (l : Nat) : nI l * 15 = nI (l * 15) := pk_mul l 15
theorem ie_addc_ok {x c d : Int32} {a b : Nat} (h : ie_addc a b ≠ 0) : ie_ev x c d a + ie_ev x c d b = ie_ev x c d (ie_addc a b) := by
  unfold ie_addc at h ⊢
  by_cases h0 : a = 100
  · subst h0
    by_cases h4 : b = 104
    · subst h4
      rfl
    · by_cases h5 : b = 105
      · subst h5
        rfl
      · simp [h4, h5] at h
  · by_cases h1 : a = 101
    · subst h1
      by_cases h5 : b = 105
      · subst h5
        rfl
      · simp [h5] at h
    · by_cases h2 : a = 102
      · subst h2
        by_cases h4 : b = 104
        · subst h4
          show x + d + c = x + c + d
          grind
        · simp [h4] at h
      · simp [h0, h1, h2] at h
section
variable {x c d : Int32} {P : ie_Pg} {w : Bool} {s : List Nat} {l t : Nat} {fr fc fk ff fd lv lx lw ly sn : Int32} {a1 a2 a3 a4 a5 a6 a7 a8 a9 a10 a11 a12 : Nat → Int32}
theorem ie_nextOf {post : Int32 → Prop} (hQ : ie_Q x c d P a1 a2 a3 a4) (hs : ie_C x c d s (l * 15) a6) (hok : ie_okP P) (hS : ie_okS P s = true) (hl : l < 12) (ht : t < 3)
    (H1 : ie_fin P s t = true → post (-1)) (H2 : ie_fin P s t = false → post (nI (ie_ni s t))) :
    wpX_nextOf post (fr, fc, fk, ff, fd, lv, lx, lw, ly, sn, a1, a2, a3, a4, a5, a6, a7, a8, a9, a10, a11, a12) (nI l) (nI t) := by
  have hp := ie_ck_p (ie_okS_ck hS ht)
  have e1 : ((nI l * 15) + 10) + nI t = nI (l * 15 + (10 + t)) := by
    rw [ie_15, show (10 : Int32) = nI 10 from rfl, nI_add, nI_add, Nat.add_assoc]
  unfold wpX_nextOf
  dsimp only
  rw [e1, nI_clamp (show l * 15 + (10 + t) < 2 ^ 31 by omega), nI_clamp (show t < 2 ^ 31 by omega), hs.2 _ (by omega), ie_ev_c (by omega), hQ.1 t ht]
  refine ⟨pk_in (l * 15 + (10 + t)) 180 (by omega), nm_e ⟨pk_in t 3 ht, ?_⟩⟩
  have h5 := hok.1 t ht
  refine pk_lt (ie_g s (10 + t)) (ie_sz P t) (fun z => ?_) (fun z => H1 (decide_eq_true z))
  rw [show nI t * 5 = nI (t * 5) from pk_mul t 5, nI_add]
  exact H2 (decide_eq_false (by omega))
theorem ie_canGo {post : Int32 → Prop} (hQ : ie_Q x c d P a1 a2 a3 a4) (hs : ie_C x c d s (l * 15) a6) (hok : ie_okP P) (hS : ie_okS P s = true) (hl : l < 12) (ht : t < 3)
    (hw : w = true ↔ x = d) (H : post (ie_b (ie_go P w s t))) :
    wpX_canGo post (fr, fc, fk, ff, fd, lv, lx, lw, ly, sn, a1, a2, a3, a4, a5, a6, a7, a8, a9, a10, a11, a12) (nI l) (nI t) := by
  unfold wpX_canGo
  refine ie_nextOf hQ hs hok hS hl ht (fun z => ?_) (fun z => ?_)
  · refine br_f (by decide) ?_
    unfold ie_go at H
    rw [z] at H
    exact H
  · have hi := ie_ni_lt hok ht z
    have hk := ie_ck_i (ie_okS_ck hS ht) z
    have hI := hok.2 _ hi
    have q := hQ.2 _ hi
    unfold ie_go at H
    rw [z] at H
    unfold ie_go1 at H
    refine br_t (nI_pos' (by omega)) (nm_r (ie_15 l) ⟨pk_in (ie_ni s t) 15 hi, ?_⟩)
    rw [nI_clamp (show ie_ni s t < 2 ^ 31 by omega), q.1, q.2.1, q.2.2]
    have hA := hI.1
    have ho : ie_op P (ie_ni s t) < 9 := by
      have := hI.2
      omega
    refine pk_eq (ie_op P (ie_ni s t)) 4 (fun o => ?_) (fun o => ⟨pk_in (ie_ni s t) 15 hi, ?_⟩)
    · have e1 : (nI (l * 15) + 13) + (nI (ie_A P (ie_ni s t)) &&& 1) = nI (l * 15 + (13 + ie_A P (ie_ni s t))) := by
        rw [ie_and1 _ hA, show (13 : Int32) = nI 13 from rfl, nI_add, nI_add, Nat.add_assoc]
      have hL := ie_okS_lock hS hA
      rw [e1, nI_clamp (by omega), hs.2 _ (by omega), ie_ev_c (by omega)]
      refine ⟨pk_in (ie_ni s t) 15 hi, vp_in_nI (by omega) (by decide), ?_⟩
      refine pk_eq (ie_g s (13 + ie_A P (ie_ni s t))) 0 (fun y => ?_) (fun y => ?_)
      · rw [if_pos o, decide_eq_true y] at H
        exact H
      · rw [if_pos o, decide_eq_false y] at H
        exact H
    · refine pk_eq (ie_op P (ie_ni s t)) 8 (fun o8 => ?_) (fun o8 => ?_)
      · have e1 : nI (l * 15) + (nI (ie_A P (ie_ni s t)) &&& 3) = nI (l * 15 + ie_A P (ie_ni s t)) := by
          rw [ie_and3 _ (by omega), nI_add]
        rw [o8] at hk
        simp only [ie_ck1, show ¬ (8 : Nat) = 2 by decide, show ¬ (8 : Nat) = 5 by decide, if_false, if_true, Bool.and_eq_true, decide_eq_true_eq] at hk
        rw [e1, nI_clamp (by omega), hs.2 _ (by omega), hk.1, hk.2]
        rw [if_neg o, if_pos o8] at H
        refine ⟨pk_in (ie_ni s t) 15 hi, vp_in_nI (by omega) (by decide), pk_in (ie_ni s t) 15 hi, ?_⟩
        refine br_c (fun y => ?_) (fun y => ?_)
        · have : w = true := hw.mpr y
          rw [this] at H
          exact H
        · have : w = false := by
            cases w
            · rfl
            · exact absurd (hw.mp rfl) y
          rw [this] at H
          exact H
      · rw [if_neg o, if_neg o8] at H
        exact H
theorem ie_able_st {post : Int32 → Prop} {n m : Nat} (hQ : ie_Q x c d P a1 a2 a3 a4) (hs : ie_C x c d s (l * 15) a6) (hok : ie_okP P) (hS : ie_okS P s = true) (hl : l < 12) (ht : t < 3)
    (hw : w = true ↔ x = d) (hm : m < 2 ^ t) (H : wX_able_4 post (nI l) fr fc fk ff fd lv lx lw ly sn a1 a2 a3 a4 a5 a6 a7 a8 a9 a10 a11 a12 n (nI (m + ie_bn (ie_go P w s t) (2 ^ t))) (nI (t + 1))) :
    wX_able_4 post (nI l) fr fc fk ff fd lv lx lw ly sn a1 a2 a3 a4 a5 a6 a7 a8 a9 a10 a11 a12 (n + 1) (nI m) (nI t) := by
  refine pk_le 3 t (fun z => absurd z (by omega)) (fun _ => ?_)
  refine ie_canGo hQ hs hok hS hl ht hw ?_
  revert H
  cases ie_go P w s t
  · exact fun H => br_t rfl (nm_r (nI_1 t) H)
  · exact fun H => br_f (by decide) (nm_r (ie_or t ht m hm) (nm_r (nI_1 t) H))
theorem ie_able_ok {post : Int32 → Prop} (hQ : ie_Q x c d P a1 a2 a3 a4) (hs : ie_C x c d s (l * 15) a6) (hok : ie_okP P) (hS : ie_okS P s = true) (hl : l < 12)
    (hw : w = true ↔ x = d) (H : post (nI (ie_able P w s))) :
    wpX_able post (fr, fc, fk, ff, fd, lv, lx, lw, ly, sn, a1, a2, a3, a4, a5, a6, a7, a8, a9, a10, a11, a12) (nI l) := by
  have h0 := ie_bnl (ie_go P w s 0) (2 ^ 0)
  have h1 := ie_bnl (ie_go P w s 1) (2 ^ 1)
  refine ⟨4, ?_⟩
  refine ie_able_st (t := 0) (m := 0) hQ hs hok hS hl (by decide) hw (by decide) ?_
  refine ie_able_st (t := 1) hQ hs hok hS hl (by decide) hw (by omega) ?_
  refine ie_able_st (t := 2) hQ hs hok hS hl (by decide) hw (by omega) ?_
  exact pk_le 3 3 (fun _ => H) (fun z => absurd z (by omega))
theorem ie_allF_ok {post : Int32 → Prop} (hQ : ie_Q x c d P a1 a2 a3 a4) (hs : ie_C x c d s (l * 15) a6) (hok : ie_okP P) (hS : ie_okS P s = true) (hl : l < 12)
    (H : post (ie_b (ie_all P s))) :
    wpX_allFinished post (fr, fc, fk, ff, fd, lv, lx, lw, ly, sn, a1, a2, a3, a4, a5, a6, a7, a8, a9, a10, a11, a12) (nI l) := by
  have st : ∀ n t, t < 3 → (ie_fin P s t = false → post 0) → (ie_fin P s t = true → wX_allFinished_2 post (nI l) fr fc fk ff fd lv lx lw ly sn a1 a2 a3 a4 a5 a6 a7 a8 a9 a10 a11 a12 n (nI (t + 1))) →
      wX_allFinished_2 post (nI l) fr fc fk ff fd lv lx lw ly sn a1 a2 a3 a4 a5 a6 a7 a8 a9 a10 a11 a12 (n + 1) (nI t) := fun n t ht K0 K1 =>
    pk_le 3 t (fun z => absurd z (by omega)) (fun _ => ie_nextOf hQ hs hok hS hl ht (fun z => br_t (by decide) (nm_r (nI_1 t) (K1 z)))
      (fun z => br_f (nI_pos (by have := ie_ni_lt hok ht z; omega)) (K0 z)))
  unfold ie_all at H
  refine ⟨4, ?_⟩
  refine st 3 0 (by decide) (fun z => by rw [z] at H; exact H) (fun z0 => ?_)
  refine st 2 1 (by decide) (fun z => by rw [z0, z] at H; exact H) (fun z1 => ?_)
  refine st 1 2 (by decide) (fun z => by rw [z0, z1, z] at H; exact H) (fun z2 => ?_)
  rw [z0, z1, z2] at H
  exact pk_le 3 3 (fun _ => H) (fun z => absurd z (by omega))
theorem ie_touch {post : Int32 → Prop} {i : Nat} (hQ : ie_Q x c d P a1 a2 a3 a4) (hok : ie_okP P) (hi : i < 15) (H : post (ie_b (ie_tl (ie_op P i)))) :
    wpX_touchesLock post (fr, fc, fk, ff, fd, lv, lx, lw, ly, sn, a1, a2, a3, a4, a5, a6, a7, a8, a9, a10, a11, a12) (nI i) := by
  have hI := hok.2 _ hi
  have q := hQ.2 _ hi
  have ho : ie_op P i < 9 := by
    have := hI.2
    omega
  unfold ie_tl at H
  unfold wpX_touchesLock
  dsimp only
  rw [nI_clamp (by omega), q.1]
  refine ⟨pk_in i 15 hi, ?_⟩
  refine pk_eq (ie_op P i) 4 (fun o => ?_) (fun o => ⟨pk_in i 15 hi, ?_⟩)
  · rw [decide_eq_true o] at H
    exact H
  · rw [decide_eq_false o] at H
    refine pk_eq (ie_op P i) 5 (fun o => ?_) (fun o => ?_)
    · rw [decide_eq_true o] at H
      exact H
    · rw [decide_eq_false o] at H
      exact H
theorem ie_writes {post : Int32 → Prop} {i : Nat} (hQ : ie_Q x c d P a1 a2 a3 a4) (hok : ie_okP P) (hi : i < 15) (H : post (ie_b (decide (ie_op P i = 1)))) :
    wpX_writes post (fr, fc, fk, ff, fd, lv, lx, lw, ly, sn, a1, a2, a3, a4, a5, a6, a7, a8, a9, a10, a11, a12) (nI i) := by
  have hI := hok.2 _ hi
  have q := hQ.2 _ hi
  have ho : ie_op P i < 9 := by
    have := hI.2
    omega
  unfold wpX_writes
  dsimp only
  rw [nI_clamp (by omega), q.1]
  refine ⟨pk_in i 15 hi, ?_⟩
  refine pk_eq (ie_op P i) 1 (fun o => ?_) (fun o => ⟨pk_in i 15 hi, ?_⟩)
  · rw [decide_eq_true o] at H
    exact H
  · rw [decide_eq_false o] at H
    refine pk_eq (ie_op P i) 3 (fun o3 => absurd hI.2 (by omega)) (fun _ => ⟨pk_in i 15 hi, ?_⟩)
    exact pk_eq (ie_op P i) 7 (fun o7 => absurd hI.2 (by omega)) (fun _ => H)
def ie_vi (n : Nat) : Int32 := if n = 99 then -1 else nI n
theorem ie_var {post : Int32 → Prop} {i : Nat} (hQ : ie_Q x c d P a1 a2 a3 a4) (hok : ie_okP P) (hi : i < 15) (H : post (ie_vi (ie_vo (ie_op P i) (ie_A P i) (ie_B P i)))) :
    wpX_variableOf post (fr, fc, fk, ff, fd, lv, lx, lw, ly, sn, a1, a2, a3, a4, a5, a6, a7, a8, a9, a10, a11, a12) (nI i) := by
  have hI := hok.2 _ hi
  have q := hQ.2 _ hi
  have hA := hI.1
  have ho : ie_op P i < 9 := by
    have := hI.2
    omega
  unfold ie_vo at H
  unfold wpX_variableOf
  dsimp only
  rw [nI_clamp (by omega), q.1, q.2.1, q.2.2]
  refine ⟨pk_in i 15 hi, nm_e ?_⟩
  refine pk_eq (ie_op P i) 0 (fun o => ⟨pk_in i 15 hi, ?_⟩) (fun o => ?_)
  · have hB : ie_B P i < 4 := by
      have := hI.2
      omega
    rw [if_pos o, ie_vi, if_neg (by omega)] at H
    rw [ie_ev_c (by omega), ie_and3 _ hB]
    exact H
  rw [if_neg o] at H
  refine pk_eq (ie_op P i) 1 (fun o1 => ⟨pk_in i 15 hi, ?_⟩) (fun o1 => ?_)
  · have hB : ie_B P i < 4 := by
      have := hI.2
      omega
    rw [if_pos o1, ie_vi, if_neg (by omega)] at H
    rw [ie_ev_c (by omega), ie_and3 _ hB]
    exact H
  rw [if_neg o1] at H
  refine pk_eq (ie_op P i) 3 (fun o3 => absurd hI.2 (by omega)) (fun _ => ?_)
  refine pk_eq (ie_op P i) 7 (fun o7 => absurd hI.2 (by omega)) (fun _ => ?_)
  refine pk_eq (ie_op P i) 8 (fun o8 => ⟨pk_in i 15 hi, ?_⟩) (fun o8 => ?_)
  · rw [if_pos o8, ie_vi, if_neg (by omega)] at H
    rw [ie_and3 _ (by omega)]
    exact H
  · rw [if_neg o8, ie_vi, if_pos rfl] at H
    exact H
theorem ie_vo_lt {i : Nat} (hI : ie_okI P i) : ie_vo (ie_op P i) (ie_A P i) (ie_B P i) < 100 := by
  have hA := hI.1
  unfold ie_vo
  by_cases h0 : ie_op P i = 0
  · have := hI.2
    rw [if_pos h0]
    omega
  rw [if_neg h0]
  by_cases h1 : ie_op P i = 1
  · have := hI.2
    rw [if_pos h1]
    omega
  rw [if_neg h1]
  by_cases h8 : ie_op P i = 8
  · rw [if_pos h8]
    omega
  · rw [if_neg h8]
    omega
end
end
section
theorem ie_vi_eq {m n : Nat} (hm : m < 100) (hn : n < 100) (h99 : m ≠ 99) : ie_vi m = ie_vi n ↔ m = n := by
  unfold ie_vi
  rw [if_neg h99]
  by_cases h : n = 99
  · rw [if_pos h]
    refine ⟨fun e => ?_, fun e => absurd (e.trans h) h99⟩
    have h1 : ¬ nI m < 0 := nI_pos (by omega)
    rw [e] at h1
    exact absurd (show (-1 : Int32) < 0 by decide) h1
  · rw [if_neg h]
    exact nI_eq (by omega) (by omega)
section
variable {x c d : Int32} {P : ie_Pg} {w : Bool} {s : List Nat} {l t : Nat} {fr fc fk ff fd lv lx lw ly sn : Int32} {a1 a2 a3 a4 a5 a6 a7 a8 a9 a10 a11 a12 : Nat → Int32}
theorem ie_ind71 {post : Int32 → Prop} {i j : Nat} (hQ : ie_Q x c d P a1 a2 a3 a4) (hok : ie_okP P) (hi : i < 15) (hj : j < 15) (H : post (ie_b (ie_ind2 P i j))) :
    wX_independent_71 post (nI i) (nI j) fr fc fk ff fd lv lx lw ly sn a1 a2 a3 a4 a5 a6 a7 a8 a9 a10 a11 a12 := by
  unfold wX_independent_71
  have vi := ie_vo_lt (hok.2 _ hi)
  have vj := ie_vo_lt (hok.2 _ hj)
  refine ie_var hQ hok hi (ie_var hQ hok hj ?_)
  unfold ie_ind2 at H
  by_cases h99 : ie_vo (ie_op P i) (ie_A P i) (ie_B P i) = 99
  · rw [if_pos h99] at H
    exact br_t (by rw [h99]; decide) H
  · rw [if_neg h99] at H
    refine br_f (by rw [ie_vi, if_neg h99]; exact nI_pos (by omega)) ?_
    by_cases he : ie_vo (ie_op P i) (ie_A P i) (ie_B P i) = ie_vo (ie_op P j) (ie_A P j) (ie_B P j)
    · rw [if_pos he] at H
      refine br_t (by rw [he]) (ie_writes hQ hok hi (ie_writes hQ hok hj ?_))
      revert H
      cases decide (ie_op P i = 1)
      · cases decide (ie_op P j = 1)
        · exact fun H => br_t rfl (br_t rfl H)
        · exact fun H => br_t rfl (br_f (by decide) H)
      · exact fun H => br_f (by decide) H
    · rw [if_neg he] at H
      exact br_f (fun e => he ((ie_vi_eq vi vj h99).mp e)) H
theorem ie_indep {post : Int32 → Prop} {i j : Nat} (hQ : ie_Q x c d P a1 a2 a3 a4) (hok : ie_okP P) (hi : i < 15) (hj : j < 15) (H : post (ie_b (ie_ind P i j))) :
    wpX_independent post (fr, fc, fk, ff, fd, lv, lx, lw, ly, sn, a1, a2, a3, a4, a5, a6, a7, a8, a9, a10, a11, a12) (nI i) (nI j) := by
  have hI := hok.2 _ hi
  have hJ := hok.2 _ hj
  have q := hQ.2 _ hi
  have r := hQ.2 _ hj
  have oi : ie_op P i < 9 ∧ ie_op P i ≠ 6 := by
    have := hI.2
    omega
  have oj : ie_op P j < 9 ∧ ie_op P j ≠ 6 := by
    have := hJ.2
    omega
  have aI := hI.1
  have aJ := hJ.1
  unfold wpX_independent
  dsimp only
  rw [nI_clamp (show i < 2 ^ 31 by omega), nI_clamp (show j < 2 ^ 31 by omega), q.1, r.1, q.2.1, r.2.1, ie_and1 _ aI, ie_and1 _ aJ]
  refine ⟨pk_in i 15 hi, pk_eq (ie_op P i) 6 (fun z => absurd z oi.2) (fun _ => ⟨pk_in j 15 hj, pk_eq (ie_op P j) 6 (fun z => absurd z oj.2) (fun _ => ?_)⟩)⟩
  refine ie_touch hQ hok hi (ie_touch hQ hok hj ?_)
  unfold ie_ind at H
  revert H
  cases ie_tl (ie_op P i)
  · exact fun H => br_t rfl (ie_ind71 hQ hok hi hj H)
  · cases ie_tl (ie_op P j)
    · exact fun H => br_f (by decide) (br_t rfl (ie_ind71 hQ hok hi hj H))
    · refine fun H => br_f (by decide) (br_f (by decide) ⟨pk_in i 15 hi, pk_in j 15 hj, ?_⟩)
      refine pk_eq (ie_A P i) (ie_A P j) (fun e => ?_) (fun e => ?_)
      · rw [decide_eq_true e] at H
        exact H
      · rw [decide_eq_false e] at H
        exact H
theorem ie_slp_st {post : Int32 → Prop} {n m u e g : Nat} (hQ : ie_Q x c d P a1 a2 a3 a4) (hs : ie_C x c d s (l * 15) a6) (hok : ie_okP P) (hS : ie_okS P s = true) (hl : l < 12) (ht : t < 3)
    (hf : ie_fin P s t = false) (h7 : a7 l = nI e) (h9 : a9 l = nI g) (he : e < 8) (hg : g < 8) (hu : u < 3) (hm : m < 2 ^ u)
    (H : wX_sleepers_13 post (nI l) (nI t) (nI (ie_ni s t)) fr fc fk ff fd lv lx lw ly sn a1 a2 a3 a4 a5 a6 a7 a8 a9 a10 a11 a12 n (nI (m + ie_bn (ie_sp P s (e ||| g) t u) (2 ^ u))) (nI (u + 1))) :
    wX_sleepers_13 post (nI l) (nI t) (nI (ie_ni s t)) fr fc fk ff fd lv lx lw ly sn a1 a2 a3 a4 a5 a6 a7 a8 a9 a10 a11 a12 (n + 1) (nI m) (nI u) := by
  refine pk_le 3 u (fun z => absurd z (by omega)) (fun _ => ?_)
  unfold ie_sp at H
  refine ie_nextOf hQ hs hok hS hl hu (fun z => ?_) (fun z => ?_)
  · rw [z, Bool.not_true, Bool.false_and, Bool.and_false] at H
    exact pk_eq u t (fun _ => nm_r (nI_1 u) H) (fun _ => br_t (by decide) (nm_r (nI_1 u) H))
  · have hi := ie_ni_lt hok hu z
    refine pk_eq u t (fun y => nm_r (nI_1 u) ?_) (fun y => br_f (nI_pos (by omega)) ⟨pk_in l 12 hl, pk_in l 12 hl, ?_⟩)
    · rw [decide_eq_true y, Bool.not_true, Bool.false_and] at H
      exact H
    · rw [z, decide_eq_false y, Bool.not_false, Bool.true_and, Bool.true_and] at H
      rw [nI_clamp (show l < 2 ^ 31 by omega), h7, h9, (ie_oor e he g hg).1, ie_bit u hu _ (ie_oor e he g hg).2]
      have h2 : (e ||| g) / 2 ^ u % 2 < 2 := Nat.mod_lt _ (by decide)
      refine pk_eq ((e ||| g) / 2 ^ u % 2) 1 (fun b => ?_) (fun b => nm_r (nI_1 u) ?_)
      · rw [decide_eq_true b, Bool.true_and] at H
        refine ie_indep hQ hok hi (ie_ni_lt hok ht hf) ?_
        revert H
        cases ie_ind P (ie_ni s u) (ie_ni s t)
        · exact fun H => br_t rfl (nm_r (nI_1 u) H)
        · exact fun H => br_f (by decide) (nm_r (ie_or u hu m hm) (nm_r (nI_1 u) H))
      · rw [decide_eq_false b, Bool.false_and] at H
        exact H
theorem ie_slp_ok {post : Int32 → Prop} {e g : Nat} (hQ : ie_Q x c d P a1 a2 a3 a4) (hs : ie_C x c d s (l * 15) a6) (hok : ie_okP P) (hS : ie_okS P s = true) (hl : l < 12) (ht : t < 3)
    (hf : ie_fin P s t = false) (h7 : a7 l = nI e) (h9 : a9 l = nI g) (he : e < 8) (hg : g < 8) (H : post (nI (ie_slp P s (e ||| g) t))) :
    wpX_sleepers post (fr, fc, fk, ff, fd, lv, lx, lw, ly, sn, a1, a2, a3, a4, a5, a6, a7, a8, a9, a10, a11, a12) (nI l) (nI t) := by
  have h0 := ie_bnl (ie_sp P s (e ||| g) t 0) (2 ^ 0)
  have h1 := ie_bnl (ie_sp P s (e ||| g) t 1) (2 ^ 1)
  unfold wpX_sleepers
  refine ie_nextOf hQ hs hok hS hl ht (fun z => absurd z (by rw [hf]; decide)) (fun _ => ⟨4, ?_⟩)
  refine ie_slp_st (u := 0) (m := 0) hQ hs hok hS hl ht hf h7 h9 he hg (by decide) (by decide) ?_
  refine ie_slp_st (u := 1) hQ hs hok hS hl ht hf h7 h9 he hg (by decide) (by omega) ?_
  refine ie_slp_st (u := 2) hQ hs hok hS hl ht hf h7 h9 he hg (by decide) (by omega) ?_
  exact pk_le 3 3 (fun _ => H) (fun z => absurd z (by omega))
theorem ie_fr {a b : Nat → Int32} {p k : Nat} {v : Int32} (h : ∀ j, j < p → b j = a j) : ∀ j, j < p → upd b (p + k) v j = a j := fun j hj => by
  rw [pk_un (by omega)]
  exact h j hj
theorem ie_perform {post : Int32 → St2 → Prop} (hQ : ie_Q x c d P a1 a2 a3 a4) (hs : ie_C x c d s (l * 15) a6) (hok : ie_okP P) (hS : ie_okS P s = true) (hl : l < 12) (ht : t < 3)
    (hf : ie_fin P s t = false)
    (H : ∀ b6, ie_C x c d (ie_pf P s t) (l * 15) b6 → (∀ j, j < l * 15 → b6 j = a6 j) → post 1 (fr, fc, fk, ff, fd, lv, lx, lw, ly, sn, a1, a2, a3, a4, a5, b6, a7, a8, a9, a10, a11, a12)) :
    wpX_perform post (fr, fc, fk, ff, fd, lv, lx, lw, ly, sn, a1, a2, a3, a4, a5, a6, a7, a8, a9, a10, a11, a12) (nI l) (nI t) (nI (ie_ni s t)) := by
  have hi := ie_ni_lt hok ht hf
  have hk := ie_ck_i (ie_okS_ck hS ht) hf
  have hp := ie_ck_p (ie_okS_ck hS ht)
  have hI := hok.2 _ hi
  have q := hQ.2 _ hi
  have hA := hI.1
  have hI2 := hI.2
  unfold ie_pf at H
  unfold wpX_perform
  dsimp only
  rw [nI_clamp (show ie_ni s t < 2 ^ 31 by omega), q.1, q.2.1, q.2.2, ie_and1 _ hA]
  revert hi hI2 hA hk H
  generalize ie_ni s t = i
  generalize ie_op P i = o
  generalize ie_A P i = a
  generalize ie_B P i = b
  intro H hi hk hA hI2
  have ep : (nI (l * 15) + 10) + nI t = nI (l * 15 + (10 + t)) := by
    rw [show (10 : Int32) = nI 10 from rfl, nI_add, nI_add, Nat.add_assoc]
  have er : ((nI (l * 15) + 4) + nI t * 2) + nI a = nI (l * 15 + (4 + t * 2 + a)) := by
    rw [show (4 : Int32) = nI 4 from rfl, show (2 : Int32) = nI 2 from rfl, pk_mul, nI_add, nI_add, nI_add, Nat.add_assoc, Nat.add_assoc, Nat.add_assoc]
  have em : (nI (l * 15) + 13) + nI a = nI (l * 15 + (13 + a)) := by
    rw [show (13 : Int32) = nI 13 from rfl, nI_add, nI_add, Nat.add_assoc]
  have ea : upd a6 ((nI (l * 15) + 10) + nI t).toNatClampNeg (a6 ((nI (l * 15) + 10) + nI t).toNatClampNeg + 1) = upd a6 (l * 15 + (10 + t)) (nI (ie_g s (10 + t) + 1)) := by
    rw [ep, nI_clamp (by omega), hs.2 _ (by omega), ie_ev_c (by omega), nI_1]
  refine nm_r (ie_15 l) ⟨pk_in i 15 hi, nm_r er ⟨pk_in i 15 hi, fun x6 e6 => ⟨pk_in i 15 hi, nm_r em ⟨pk_in (l * 15 + (10 + t)) 180 (by omega) ep, pk_in (l * 15 + (10 + t)) 180 (by omega) ep, nm_r ea ⟨pk_in i 15 hi, nm_e ?_⟩⟩⟩⟩⟩
  have h1 : ie_C x c d (s.set (10 + t) (ie_g s (10 + t) + 1)) (l * 15) (upd a6 (l * 15 + (10 + t)) (nI (ie_g s (10 + t) + 1))) := ie_C_set hs (by omega) (ie_ev_c (by omega)).symm
  have f1 : ∀ j, j < l * 15 → upd a6 (l * 15 + (10 + t)) (nI (ie_g s (10 + t) + 1)) j = a6 j := ie_fr (fun _ _ => rfl)
  have g1 : ∀ k, k ≠ 10 + t → ie_g (s.set (10 + t) (ie_g s (10 + t) + 1)) k = ie_g s k := fun k hk => ie_gn hk
  revert h1 f1 g1 H
  generalize upd a6 (l * 15 + (10 + t)) (nI (ie_g s (10 + t) + 1)) = b6
  generalize s.set (10 + t) (ie_g s (10 + t) + 1) = s1
  intro H h1 f1 g1
  rcases hI2 with ⟨e, hb⟩ | ⟨e, hb⟩ | e | e | e | e
  · subst e
    rw [ie_ev_c (by omega), ie_and3 _ hb, nI_add] at e6
    subst e6
    refine br_f (by decide) (br_f (by decide) (br_t rfl ⟨vp_in_nI (by omega) (by decide), vp_in_nI (by omega) (by decide), ?_⟩))
    rw [nI_clamp (by omega), nI_clamp (by omega), h1.2 _ (by omega)]
    exact nm_e (H _ (ie_C_set h1 (by omega) rfl) (ie_fr f1))
  · subst e
    rw [ie_ev_c (by omega), ie_and3 _ hb, nI_add] at e6
    subst e6
    refine br_f (by decide) (br_f (by decide) (br_f (by decide) (br_t rfl ⟨vp_in_nI (by omega) (by decide), vp_in_nI (by omega) (by decide), ?_⟩)))
    rw [nI_clamp (by omega), nI_clamp (by omega), h1.2 _ (by omega)]
    exact nm_e (H _ (ie_C_set h1 (by omega) rfl) (ie_fr f1))
  · subst e
    have hk' : ie_addc (ie_g s (4 + t * 2 + a)) b ≠ 0 := by
      simp only [ie_ck1, if_true, Bool.not_eq_true', decide_eq_false_iff_not] at hk
      exact hk
    refine br_f (by decide) (br_f (by decide) (br_f (by decide) (br_f (by decide) (br_t rfl ⟨vp_in_nI (by omega) (by decide), pk_in i 15 hi, vp_in_nI (by omega) (by decide), ?_⟩))))
    rw [nI_clamp (by omega), h1.2 _ (by omega)]
    rw [← g1 _ (by omega)] at hk'
    exact nm_r (congrArg _ (ie_addc_ok hk')) (H _ (ie_C_set h1 (by omega) rfl) (ie_fr f1))
  · subst e
    refine br_f (by decide) (br_f (by decide) (br_f (by decide) (br_f (by decide) (br_f (by decide) (br_f (by decide) (br_t rfl ⟨vp_in_nI (by omega) (by decide), ?_⟩))))))
    rw [nI_clamp (by omega), nI_1]
    exact nm_e (H _ (ie_C_set h1 (by omega) (ie_ev_c (by omega)).symm) (ie_fr f1))
  · subst e
    have hk' : ie_g s (13 + a) = t + 1 := by
      simp only [ie_ck1, show ¬ (5 : Nat) = 2 by decide, if_false, if_true, decide_eq_true_eq] at hk
      exact hk
    rw [← g1 _ (by omega)] at hk'
    refine br_f (by decide) (br_f (by decide) (br_f (by decide) (br_f (by decide) (br_f (by decide) (br_f (by decide) (br_f (by decide) (br_t rfl ⟨vp_in_nI (by omega) (by decide), ?_⟩)))))))
    rw [nI_clamp (by omega), nI_1]
    refine br_t (by rw [h1.2 _ (by omega), hk', ie_ev_c (by omega)]) ⟨vp_in_nI (by omega) (by decide), ?_⟩
    exact nm_e (H _ (ie_C_set h1 (by omega) rfl) (ie_fr f1))
  · subst e
    exact br_f (by decide) (br_t (by decide) (H _ h1 f1))
end
end
section
def ie_mix (i : Nat) (f g : Nat → Int32) : Nat → Int32 := fun j => if j < i then f j else g j
theorem ie_mix_0 (f g : Nat → Int32) : ie_mix 0 f g = g := funext fun j => if_neg (by omega)
theorem ie_mix_at (i : Nat) (f g : Nat → Int32) : ie_mix i f g i = g i := if_neg (by omega)
theorem ie_mix_lt {i j : Nat} (f g : Nat → Int32) (h : j < i) : ie_mix i f g j = f j := if_pos h
theorem ie_mix_up {i : Nat} {f g : Nat → Int32} {v : Int32} (h : v = f i) : upd (ie_mix i f g) i v = ie_mix (i + 1) f g := by
  funext j
  by_cases e : j = i
  · subst e
    rw [pk_us, ie_mix_lt f g (by omega), h]
  · rw [pk_un e]
    unfold ie_mix
    by_cases e2 : j < i
    · rw [if_pos e2, if_pos (by omega)]
    · rw [if_neg e2, if_neg (by omega)]
theorem ie_mix_id {i : Nat} {f g : Nat → Int32} (h : f i = g i) : ie_mix i f g = ie_mix (i + 1) f g := by
  funext j
  unfold ie_mix
  by_cases e : j = i
  · subst e
    rw [if_neg (by omega), if_pos (by omega), h]
  · by_cases e2 : j < i
    · rw [if_pos e2, if_pos (by omega)]
    · rw [if_neg e2, if_neg (by omega)]
/-- whether the ends differ: over i places -/
def ie_df (f g : Nat → Int32) (q : Int32) : Nat → Int32
  | 0 => q
  | i + 1 => if f i = g i then ie_df f g q i else 1
theorem ie_df_1 (f g : Nat → Int32) (q : Int32) (i : Nat) (h : q = 1 ∨ ∃ j, j < i ∧ ¬ f j = g j) : ie_df f g q i = 1 := by
  induction i with
  | zero =>
    rcases h with h | ⟨j, hj, _⟩
    · exact h
    · omega
  | succ i ih =>
    show (if f i = g i then ie_df f g q i else 1) = 1
    by_cases e : f i = g i
    · rw [if_pos e]
      refine ih ?_
      rcases h with h | ⟨j, hj, hn⟩
      · exact Or.inl h
      · refine Or.inr ⟨j, ?_, hn⟩
        have : j ≠ i := fun z => hn (z ▸ e)
        omega
    · rw [if_neg e]
theorem ie_df_0 (f g : Nat → Int32) (q : Int32) (i : Nat) (h : ∀ j, j < i → f j = g j) : ie_df f g q i = q := by
  induction i with
  | zero => rfl
  | succ i ih =>
    show (if f i = g i then ie_df f g q i else 1) = q
    rw [if_pos (h i (by omega))]
    exact ih (fun j hj => h j (by omega))
def ie_lo (f g : Nat → Int32) (j : Nat) : Int32 := if g j ≤ f j then g j else f j
def ie_hi (f g : Nat → Int32) (j : Nat) : Int32 := if f j ≤ g j then g j else f j
/-- what cell k of an end holds -/
def ie_v (x c d : Int32) (E : List Nat) (k : Nat) : Int32 := ie_ev x c d (ie_g E k)
def ie_mn (x c d : Int32) (L : List (List Nat)) (k : Nat) (r : Int32) : Prop := (∃ E, E ∈ L ∧ r = ie_v x c d E k) ∧ ∀ E, E ∈ L → r ≤ ie_v x c d E k
def ie_mx (x c d : Int32) (L : List (List Nat)) (k : Nat) (r : Int32) : Prop := (∃ E, E ∈ L ∧ r = ie_v x c d E k) ∧ ∀ E, E ∈ L → ie_v x c d E k ≤ r
def ie_see (x c d : Int32) (v : Nat) (X : Int32) (L : List (List Nat)) (sn : Int32) : Prop :=
  (sn = 1 ∧ ∃ E, E ∈ L ∧ ie_v x c d E v = X) ∨ (sn = 0 ∧ ∀ E, E ∈ L → ¬ ie_v x c d E v = X)
def ie_dif (x c d : Int32) (L : List (List Nat)) (f : Nat → Int32) (fd : Int32) : Prop :=
  (fd = 0 ∧ ∀ E, E ∈ L → ∀ j, j < 4 → ie_v x c d E j = f j) ∨ (fd = 1 ∧ ∃ E, E ∈ L ∧ ∃ j, j < 4 ∧ ¬ ie_v x c d E j = f j)
/-- what the fields say of the ends -/
def ie_S (x c d : Int32) (v : Nat) (X : Int32) (L : List (List Nat)) (fc fd sn : Int32) (a10 a11 a12 : Nat → Int32) : Prop :=
  ie_see x c d v X L sn ∧
  ((L = [] ∧ fc = 0 ∧ fd = 0) ∨
   (L ≠ [] ∧ fc = 1 ∧ (∀ k, k < 10 → ie_mn x c d L k (a11 k) ∧ ie_mx x c d L k (a12 k)) ∧ (∃ F, F ∈ L ∧ ∀ j, j < 4 → a10 j = ie_v x c d F j) ∧ ie_dif x c d L a10 fd))
theorem ie_see_c {x c d : Int32} {v : Nat} {X : Int32} {L : List (List Nat)} {sn sn' : Int32} {s : List Nat} (h : ie_see x c d v X L sn)
    (h' : (ie_v x c d s v = X ∧ sn' = 1) ∨ (¬ ie_v x c d s v = X ∧ sn' = sn)) : ie_see x c d v X (s :: L) sn' := by
  rcases h' with ⟨e, r⟩ | ⟨e, r⟩
  · exact Or.inl ⟨r, s, List.mem_cons_self, e⟩
  · subst r
    rcases h with ⟨r, E, hE, e2⟩ | ⟨r, hE⟩
    · exact Or.inl ⟨r, E, List.mem_cons_of_mem s hE, e2⟩
    · refine Or.inr ⟨r, fun E hm => ?_⟩
      rcases List.mem_cons.mp hm with z | z
      · rw [z]
        exact e
      · exact hE E z
theorem ie_ltle {a b c : Int32} (h : ¬ a ≤ b) (h2 : a ≤ c) : b ≤ c := by
  rw [Int32.le_iff_toInt_le] at *
  omega
theorem ie_nle {a b : Int32} (h : ¬ a ≤ b) : b ≤ a := by
  rw [Int32.le_iff_toInt_le] at *
  omega
theorem ie_le_r (a : Int32) : a ≤ a := by
  rw [Int32.le_iff_toInt_le]
  omega
theorem ie_le_t {a b c : Int32} (h : a ≤ b) (h2 : b ≤ c) : a ≤ c := by
  rw [Int32.le_iff_toInt_le] at *
  omega
theorem ie_le_a {a b : Int32} (h : a ≤ b) (h2 : b ≤ a) : a = b := by
  rw [Int32.le_iff_toInt_le] at *
  exact Int32.toInt_inj.mp (by omega)
theorem ie_mn_c {x c d : Int32} {L : List (List Nat)} {k : Nat} {g f : Nat → Int32} {s : List Nat} (hf : f k = ie_v x c d s k) (h : ie_mn x c d L k (g k)) :
    ie_mn x c d (s :: L) k (ie_lo f g k) := by
  obtain ⟨⟨E, hE, e⟩, hA⟩ := h
  unfold ie_lo
  by_cases z : g k ≤ f k
  · rw [if_pos z]
    refine ⟨⟨E, List.mem_cons_of_mem s hE, e⟩, fun F hF => ?_⟩
    rcases List.mem_cons.mp hF with y | y
    · rw [y, ← hf]
      exact z
    · exact hA F y
  · rw [if_neg z]
    refine ⟨⟨s, List.mem_cons_self, hf⟩, fun F hF => ?_⟩
    rcases List.mem_cons.mp hF with y | y
    · rw [y, hf]
      exact ie_le_r _
    · exact ie_ltle z (hA F y)
theorem ie_mx_c {x c d : Int32} {L : List (List Nat)} {k : Nat} {g f : Nat → Int32} {s : List Nat} (hf : f k = ie_v x c d s k) (h : ie_mx x c d L k (g k)) :
    ie_mx x c d (s :: L) k (ie_hi f g k) := by
  obtain ⟨⟨E, hE, e⟩, hA⟩ := h
  unfold ie_hi
  by_cases z : f k ≤ g k
  · rw [if_pos z]
    refine ⟨⟨E, List.mem_cons_of_mem s hE, e⟩, fun F hF => ?_⟩
    rcases List.mem_cons.mp hF with y | y
    · rw [y, ← hf]
      exact z
    · exact hA F y
  · rw [if_neg z]
    refine ⟨⟨s, List.mem_cons_self, hf⟩, fun F hF => ?_⟩
    rcases List.mem_cons.mp hF with y | y
    · rw [y, hf]
      exact ie_le_r _
    · exact ie_le_t (hA F y) (ie_nle z)
/-- the first end -/
theorem ie_S_0 {x c d : Int32} {v : Nat} {X : Int32} {fc fd sn sn' : Int32} {a10 a11 a12 f : Nat → Int32} {s : List Nat} (h : ie_S x c d v X [] fc fd sn a10 a11 a12)
    (h' : (ie_v x c d s v = X ∧ sn' = 1) ∨ (¬ ie_v x c d s v = X ∧ sn' = sn)) (hf : ∀ k, k < 15 → f k = ie_v x c d s k) :
    ie_S x c d v X [s] 1 fd sn' (ie_mix 4 f a10) (ie_mix 10 f a11) (ie_mix 10 f a12) := by
  obtain ⟨h1, h2⟩ := h
  refine ⟨ie_see_c h1 h', Or.inr ⟨List.cons_ne_nil s [], rfl, fun k hk => ?_, ⟨s, List.mem_cons_self, fun j hj => ?_⟩, ?_⟩⟩
  · rw [ie_mix_lt f a11 hk, ie_mix_lt f a12 hk, hf k (by omega)]
    refine ⟨⟨⟨s, List.mem_cons_self, rfl⟩, fun E hE => ?_⟩, ⟨⟨s, List.mem_cons_self, rfl⟩, fun E hE => ?_⟩⟩
    · rw [List.mem_singleton.mp hE]
      exact ie_le_r _
    · rw [List.mem_singleton.mp hE]
      exact ie_le_r _
  · rw [ie_mix_lt f a10 hj, hf j (by omega)]
  · rcases h2 with h2 | h2
    · refine Or.inl ⟨h2.2.2, fun E hE j hj => ?_⟩
      rw [List.mem_singleton.mp hE, ie_mix_lt f a10 hj, hf j (by omega)]
    · exact absurd rfl h2.1
/-- a further end -/
theorem ie_S_1 {x c d : Int32} {v : Nat} {X : Int32} {L : List (List Nat)} {fc fd sn sn' : Int32} {a10 a11 a12 f : Nat → Int32} {s : List Nat} (h : ie_S x c d v X L fc fd sn a10 a11 a12) (hL : L ≠ [])
    (h' : (ie_v x c d s v = X ∧ sn' = 1) ∨ (¬ ie_v x c d s v = X ∧ sn' = sn)) (hf : ∀ k, k < 15 → f k = ie_v x c d s k) :
    ie_S x c d v X (s :: L) 1 (ie_df f a10 fd 4) sn' a10 (ie_mix 10 (ie_lo f a11) a11) (ie_mix 10 (ie_hi f a12) a12) := by
  obtain ⟨h1, h2⟩ := h
  rcases h2 with h2 | ⟨_, _, hm, ⟨F, hF, e⟩, hd⟩
  · exact absurd h2.1 hL
  refine ⟨ie_see_c h1 h', Or.inr ⟨List.cons_ne_nil s L, rfl, fun k hk => ?_, ⟨F, List.mem_cons_of_mem s hF, e⟩, ?_⟩⟩
  · rw [ie_mix_lt _ a11 hk, ie_mix_lt _ a12 hk]
    exact ⟨ie_mn_c (hf k (by omega)) (hm k hk).1, ie_mx_c (hf k (by omega)) (hm k hk).2⟩
  · by_cases z : ∃ j, j < 4 ∧ ¬ f j = a10 j
    · refine Or.inr ⟨ie_df_1 f a10 fd 4 (Or.inr z), s, List.mem_cons_self, ?_⟩
      obtain ⟨j, hj, n⟩ := z
      exact ⟨j, hj, by rw [← hf j (by omega)]; exact n⟩
    · have z' : ∀ j, j < 4 → f j = a10 j := fun j hj => Classical.byContradiction (fun n => z ⟨j, hj, n⟩)
      rw [ie_df_0 f a10 fd 4 z']
      rcases hd with ⟨r, hd⟩ | ⟨r, E, hE, hd⟩
      · refine Or.inl ⟨r, fun E hE j hj => ?_⟩
        rcases List.mem_cons.mp hE with y | y
        · rw [y, ← hf j (by omega)]
          exact z' j hj
        · exact hd E y j hj
      · exact Or.inr ⟨r, E, List.mem_cons_of_mem s hE, hd⟩
section
variable {x c d : Int32} {s : List Nat} {l v : Nat} {X fr fc fk ff fd lv lx lw ly sn : Int32} {a1 a2 a3 a4 a5 a6 a7 a8 a9 a10 a11 a12 : Nat → Int32}
theorem ie_at {b i : Nat} (hb : b ≤ 165) (hi : i < 15) : nI b + nI i = nI (b + i) ∧ (nI b + nI i).toNatClampNeg = b + i ∧ vp_in (nI b + nI i) 180 := by
  rw [nI_add]
  exact ⟨rfl, nI_clamp (by omega), vp_in_nI (by omega) (by decide)⟩
theorem ie_107_0 {post : St2 → Prop} {b : Nat} (hb : b ≤ 165) 
    (H : post (fr, 1, fk, ff, fd, lv, lx, lw, ly, sn, a1, a2, a3, a4, a5, a6, a7, a8, a9, a10, ie_mix 10 (fun j => a6 (b + j)) a11, ie_mix 10 (fun j => a6 (b + j)) a12)) :
    ∃ n, wX_noteEnd_107 post (nI b) fr 0 fk ff fd lv lx lw ly sn n 0 a1 a2 a3 a4 a5 a6 a7 a8 a9 a10 a11 a12 := by
  refine Exists.elim (pk_loop (σ := Unit) (fun n i _ => wX_noteEnd_107 post (nI b) fr 0 fk ff fd lv lx lw ly sn n (nI i) a1 a2 a3 a4 a5 a6 a7 a8 a9 a10 (ie_mix i (fun j => a6 (b + j)) a11) (ie_mix i (fun j => a6 (b + j)) a12))
    (fun _ _ => True) 10 0 () (by omega) trivial (fun n _ _ => ?_) (fun n i _ hi _ hw => ?_)) (fun n hn => ⟨n, ?_⟩)
  · exact pk_le 10 10 (fun _ => H) (fun z => absurd z (by omega))
  · have q := ie_at (i := i) hb (by omega)
    refine pk_le 10 i (fun z => absurd z (by omega)) (fun _ => ⟨q.2.2, ?_⟩)
    rw [q.2.1]
    refine nm_e (br_t rfl ⟨pk_in i 10 hi, ?_⟩)
    rw [nI_clamp (by omega), ie_mix_up (f := fun j => a6 (b + j)) rfl]
    refine nm_e (br_t rfl ⟨pk_in i 10 hi, ?_⟩)
    rw [nI_clamp (by omega), ie_mix_up (f := fun j => a6 (b + j)) rfl]
    exact nm_e (nm_r (nI_1 i) (hw () trivial))
  · rw [ie_mix_0, ie_mix_0] at hn
    exact hn
theorem ie_107_1 {post : St2 → Prop} {b : Nat} (hb : b ≤ 165) 
    (H : post (fr, 1, fk, ff, fd, lv, lx, lw, ly, sn, a1, a2, a3, a4, a5, a6, a7, a8, a9, a10, ie_mix 10 (ie_lo (fun j => a6 (b + j)) a11) a11, ie_mix 10 (ie_hi (fun j => a6 (b + j)) a12) a12)) :
    ∃ n, wX_noteEnd_107 post (nI b) fr 1 fk ff fd lv lx lw ly sn n 0 a1 a2 a3 a4 a5 a6 a7 a8 a9 a10 a11 a12 := by
  refine Exists.elim (pk_loop (σ := Unit) (fun n i _ => wX_noteEnd_107 post (nI b) fr 1 fk ff fd lv lx lw ly sn n (nI i) a1 a2 a3 a4 a5 a6 a7 a8 a9 a10 (ie_mix i (ie_lo (fun j => a6 (b + j)) a11) a11) (ie_mix i (ie_hi (fun j => a6 (b + j)) a12) a12))
    (fun _ _ => True) 10 0 () (by omega) trivial (fun n _ _ => ?_) (fun n i _ hi _ hw => ?_)) (fun n hn => ⟨n, ?_⟩)
  · exact pk_le 10 10 (fun _ => H) (fun z => absurd z (by omega))
  · have q := ie_at (i := i) hb (by omega)
    have J : ∀ b11, b11 = ie_mix (i + 1) (ie_lo (fun j => a6 (b + j)) a11) a11 → wX_noteEnd_149 post (wX_noteEnd_107 post (nI b) fr 1 fk ff fd lv lx lw ly sn n) (nI b) (nI i) (a6 (b + i)) fr 1 fk ff fd lv lx lw ly sn a1 a2 a3 a4 a5 a6 a7 a8 a9 a10 b11 (ie_mix i (ie_hi (fun j => a6 (b + j)) a12) a12) := by
      intro b11 e11
      subst e11
      refine br_f (by decide) ⟨pk_in i 10 hi, ?_⟩
      rw [nI_clamp (by omega), ie_mix_at]
      refine br_c (fun z => ?_) (fun z => ⟨pk_in i 10 hi, ?_⟩)
      · rw [ie_mix_id (i := i) (f := ie_hi (fun j => a6 (b + j)) a12) (if_pos z)]
        exact nm_r (nI_1 i) (hw () trivial)
      · rw [ie_mix_up (f := ie_hi (fun j => a6 (b + j)) a12) (if_neg z).symm]
        exact nm_e (nm_r (nI_1 i) (hw () trivial))
    refine pk_le 10 i (fun z => absurd z (by omega)) (fun _ => ⟨q.2.2, ?_⟩)
    rw [q.2.1]
    refine nm_e (br_f (by decide) ⟨pk_in i 10 hi, ?_⟩)
    rw [nI_clamp (by omega), ie_mix_at]
    refine br_c (fun z => ?_) (fun z => ⟨pk_in i 10 hi, ?_⟩)
    · exact J _ (ie_mix_id (if_pos z))
    · rw [nI_clamp (by omega)]
      exact nm_e (J _ (ie_mix_up (if_neg z).symm))
  · rw [ie_mix_0, ie_mix_0] at hn
    exact hn
theorem ie_48_0 {post : St2 → Prop} {b : Nat} (hb : b ≤ 165) 
    (H : post (fr, 1, fk, ff, fd, lv, lx, lw, ly, sn, a1, a2, a3, a4, a5, a6, a7, a8, a9, ie_mix 4 (fun j => a6 (b + j)) a10, ie_mix 10 (fun j => a6 (b + j)) a11, ie_mix 10 (fun j => a6 (b + j)) a12)) :
    ∃ n, wX_noteEnd_48 post (nI b) fr 0 fk ff lv lx lw ly sn n 0 fd a1 a2 a3 a4 a5 a6 a7 a8 a9 a10 a11 a12 := by
  refine Exists.elim (pk_loop (σ := Unit) (fun n i _ => wX_noteEnd_48 post (nI b) fr 0 fk ff lv lx lw ly sn n (nI i) fd a1 a2 a3 a4 a5 a6 a7 a8 a9 (ie_mix i (fun j => a6 (b + j)) a10) a11 a12)
    (fun _ _ => True) 4 0 () (by omega) trivial (fun n _ _ => ?_) (fun n i _ hi _ hw => ?_)) (fun n hn => ⟨n, ?_⟩)
  · exact pk_le 4 4 (fun _ => ie_107_0 hb H) (fun z => absurd z (by omega))
  · have q := ie_at (i := i) hb (by omega)
    refine pk_le 4 i (fun z => absurd z (by omega)) (fun _ => br_t rfl ⟨q.2.2, pk_in i 4 hi, ?_⟩)
    rw [q.2.1, nI_clamp (by omega), ie_mix_up (f := fun j => a6 (b + j)) rfl]
    exact nm_e (nm_r (nI_1 i) (hw () trivial))
  · rw [ie_mix_0] at hn
    exact hn
theorem ie_48_1 {post : St2 → Prop} {b : Nat} (hb : b ≤ 165) 
    (H : post (fr, 1, fk, ff, ie_df (fun j => a6 (b + j)) a10 fd 4, lv, lx, lw, ly, sn, a1, a2, a3, a4, a5, a6, a7, a8, a9, a10, ie_mix 10 (ie_lo (fun j => a6 (b + j)) a11) a11, ie_mix 10 (ie_hi (fun j => a6 (b + j)) a12) a12)) :
    ∃ n, wX_noteEnd_48 post (nI b) fr 1 fk ff lv lx lw ly sn n 0 fd a1 a2 a3 a4 a5 a6 a7 a8 a9 a10 a11 a12 := by
  refine pk_loop (σ := Unit) (fun n i _ => wX_noteEnd_48 post (nI b) fr 1 fk ff lv lx lw ly sn n (nI i) (ie_df (fun j => a6 (b + j)) a10 fd i) a1 a2 a3 a4 a5 a6 a7 a8 a9 a10 a11 a12)
    (fun _ _ => True) 4 0 () (by omega) trivial (fun n _ _ => ?_) (fun n i _ hi _ hw => ?_)
  · exact pk_le 4 4 (fun _ => ie_107_1 hb H) (fun z => absurd z (by omega))
  · have q := ie_at (i := i) hb (by omega)
    refine pk_le 4 i (fun z => absurd z (by omega)) (fun _ => br_f (by decide) ⟨q.2.2, pk_in i 4 hi, ?_⟩)
    rw [q.2.1, nI_clamp (by omega)]
    have hw' := hw () trivial
    refine br_c (fun z => nm_r (nI_1 i) ?_) (fun z => nm_r (nI_1 i) ?_)
    · rw [show ie_df (fun j => a6 (b + j)) a10 fd (i + 1) = ie_df (fun j => a6 (b + j)) a10 fd i from if_pos z] at hw'
      exact hw'
    · rw [show ie_df (fun j => a6 (b + j)) a10 fd (i + 1) = 1 from if_neg z] at hw'
      exact hw'
theorem ie_noteEnd {post : St2 → Prop} {L : List (List Nat)} (hs : ie_C x c d s (l * 15) a6) (hl : l < 12) (hv : v < 4) (hS : ie_S x c d v X L fc fd sn a10 a11 a12)
    (H : ∀ fd' sn' b10 b11 b12, ie_S x c d v X (s :: L) 1 fd' sn' b10 b11 b12 → post (fr, 1, fk, ff, fd', nI v, X, nI v, X, sn', a1, a2, a3, a4, a5, a6, a7, a8, a9, b10, b11, b12)) :
    wpX_noteEnd post (fr, fc, fk, ff, fd, nI v, X, nI v, X, sn, a1, a2, a3, a4, a5, a6, a7, a8, a9, a10, a11, a12) (nI l) := by
  have hb : l * 15 ≤ 165 := by omega
  have q := ie_at (i := v) hb (by omega)
  have hf : ∀ k, k < 15 → (fun j => a6 (l * 15 + j)) k = ie_v x c d s k := fun k hk => hs.2 k hk
  have main : ∀ sn', ((ie_v x c d s v = X ∧ sn' = 1) ∨ (¬ ie_v x c d s v = X ∧ sn' = sn)) → ∃ n, wX_noteEnd_48 post (nI (l * 15)) fr fc fk ff (nI v) X (nI v) X sn' n 0 fd a1 a2 a3 a4 a5 a6 a7 a8 a9 a10 a11 a12 := by
    intro sn' h'
    by_cases hL : L = []
    · subst hL
      have e : fc = 0 := by
        rcases hS.2 with z | z
        · exact z.2.1
        · exact absurd rfl z.1
      subst e
      exact ie_48_0 hb (H _ _ _ _ _ (ie_S_0 hS h' hf))
    · have e : fc = 1 := by
        rcases hS.2 with z | z
        · exact absurd z.1 hL
        · exact z.2.1
      subst e
      exact ie_48_1 hb (H _ _ _ _ _ (ie_S_1 hS hL h' hf))
  unfold wpX_noteEnd
  refine nm_r (ie_15 l) ⟨q.2.2, ?_⟩
  rw [q.2.1, hs.2 v (by omega)]
  refine br_c (fun z => ⟨q.2.2, br_t z (main 1 (Or.inl ⟨z, rfl⟩))⟩) (fun z => main sn (Or.inr ⟨z, rfl⟩))
end
end
section
/-- i cells from b on hold what lies 15 places below -/
def ie_cp (b i : Nat) (a : Nat → Int32) : Nat → Int32 := fun j => if b ≤ j ∧ j < b + i then a (j - 15) else a j
theorem ie_cp_0 (b : Nat) (a : Nat → Int32) : ie_cp b 0 a = a := funext fun j => if_neg (by omega)
theorem ie_cp_lt {b i j : Nat} (a : Nat → Int32) (h : j < b) : ie_cp b i a j = a j := if_neg (by omega)
theorem ie_cp_in {b i k : Nat} (a : Nat → Int32) (h : k < i) : ie_cp b i a (b + k) = a (b + k - 15) := if_pos (by omega)
theorem ie_cp_up {b i : Nat} {a : Nat → Int32} {v : Int32} (h : v = a (b + i - 15)) : upd (ie_cp b i a) (b + i) v = ie_cp b (i + 1) a := by
  funext j
  by_cases e : j = b + i
  · subst e
    rw [pk_us, ie_cp_in a (by omega), h]
  · rw [pk_un e]
    unfold ie_cp
    by_cases e2 : b ≤ j ∧ j < b + i
    · rw [if_pos e2, if_pos (by omega)]
    · rw [if_neg e2, if_neg (by omega)]
def ie_R (x c d : Int32) (a6 a7 a8 a9 : Nat → Int32) : List ie_Fr → Prop
  | [] => True
  | f :: fs => (ie_C x c d f.1 (fs.length * 15) a6 ∧ a7 fs.length = nI f.2.1 ∧ a8 fs.length = nI f.2.2.1 ∧ a9 fs.length = nI f.2.2.2 ∧ f.2.1 < 8 ∧ f.2.2.1 < 8 ∧ f.2.2.2 < 8) ∧ ie_R x c d a6 a7 a8 a9 fs
theorem ie_R_mono {x c d : Int32} {a6 a7 a8 a9 b6 b7 b8 b9 : Nat → Int32} (fs : List ie_Fr) (h6 : ∀ j, j < fs.length * 15 → b6 j = a6 j)
    (h7 : ∀ j, j < fs.length → b7 j = a7 j ∧ b8 j = a8 j ∧ b9 j = a9 j) (h : ie_R x c d a6 a7 a8 a9 fs) : ie_R x c d b6 b7 b8 b9 fs := by
  induction fs with
  | nil => trivial
  | cons f fs ih =>
    obtain ⟨⟨g1, g2, g3, g4, g5⟩, g6⟩ := h
    rw [List.length_cons] at h6 h7
    have q := h7 fs.length (by omega)
    refine ⟨⟨⟨g1.1, fun k hk => ?_⟩, by rw [q.1, g2], by rw [q.2.1, g3], by rw [q.2.2, g4], g5⟩, ih (fun j hj => h6 j (by omega)) (fun j hj => h7 j (by omega)) g6⟩
    rw [h6 _ (by omega)]
    exact g1.2 k hk
def ie_lev : List ie_Fr → Int32
  | [] => -1
  | _ :: fs => nI fs.length
theorem ie_lev_dn (fs : List ie_Fr) : nI fs.length + (-1) = ie_lev fs := by
  cases fs with
  | nil => decide
  | cons f fs => exact pk_m1 fs.length
theorem ie_lw1 : ∀ m, m < 8 → nI m &&& 1 = nI (m % 2) ∧ nI m &&& 2 = nI (m / 2 % 2 * 2) := by decide +kernel
theorem ie_lowest {post : Int32 → Prop} {m : Nat} (hm : m < 8) (H : post (nI (ie_low m))) : wpX_lowest post () (nI m) := by
  unfold wpX_lowest
  rw [(ie_lw1 m hm).1, (ie_lw1 m hm).2]
  unfold ie_low at H
  refine pk_eq (m % 2) 1 (fun z => ?_) (fun z => ?_)
  · rw [if_pos z] at H
    exact H
  · rw [if_neg z] at H
    refine pk_eq (m / 2 % 2 * 2) 2 (fun y => ?_) (fun y => ?_)
    · rw [if_pos (by omega)] at H
      exact H
    · rw [if_neg (by omega)] at H
      exact H
theorem ie_low_lt (m : Nat) : ie_low m < 3 := by
  unfold ie_low
  by_cases h : m % 2 = 1
  · rw [if_pos h]
    decide
  · rw [if_neg h]
    by_cases h2 : m / 2 % 2 = 1
    · rw [if_pos h2]
      decide
    · rw [if_neg h2]
      decide
section
variable {x c d : Int32} {P : ie_Pg} {w : Bool} {s : List Nat} {l t v : Nat} {X fr fc fk ff fd lv lx lw ly sn : Int32} {a1 a2 a3 a4 a5 a6 a7 a8 a9 a10 a11 a12 : Nat → Int32}
theorem ie_open_ok {post : St2 → Prop} {e : Nat} {acc : ie_Ac} (hQ : ie_Q x c d P a1 a2 a3 a4) (hs : ie_C x c d s (l * 15) a6) (hok : ie_okP P) (hS : ie_okS P s = true) (hl : l < 12)
    (hw : w = true ↔ x = d) (h7 : a7 l = nI e) (he : e < 8) (hv : v < 4) (hA : ie_S x c d v X acc.1 fc fd sn a10 a11 a12)
    (H : ∀ fc' fd' sn' b10 b11 b12, ie_S x c d v X (ie_acc P w s acc).1 fc' fd' sn' b10 b11 b12 →
      post (fr, fc', ie_b (ie_acc P w s acc).2, ff, fd', nI v, X, nI v, X, sn', a1, a2, a3, a4, a5, a6, a7, upd a8 l (nI (ie_able P w s &&& (7 - e))), upd a9 l 0, b10, b11, b12)) :
    wpX_open post (fr, fc, ie_b acc.2, ff, fd, nI v, X, nI v, X, sn, a1, a2, a3, a4, a5, a6, a7, a8, a9, a10, a11, a12) (nI l) := by
  have hlt := ie_able_lt P w s
  unfold wpX_open
  refine ie_able_ok hQ hs hok hS hl hw ⟨pk_in l 12 hl, ?_⟩
  rw [nI_clamp (show l < 2 ^ 31 by omega), h7, (ie_andn _ hlt e he).1]
  refine nm_e ⟨pk_in l 12 hl, pk_in l 12 hl, nm_e ?_⟩
  unfold ie_acc at H
  refine pk_eq (ie_able P w s) 0 (fun z => ?_) (fun z => ?_)
  · rw [if_pos z] at H
    refine ie_allF_ok hQ hs hok hS hl ?_
    revert H
    cases ie_all P s
    · exact fun H => br_t rfl (H _ _ _ _ _ _ hA)
    · exact fun H => br_f (by decide) (ie_noteEnd hs hl hv hA (fun fd' sn' b10 b11 b12 h => H _ _ _ _ _ _ h))
  · rw [if_neg z] at H
    exact H _ _ _ _ _ _ hA
theorem ie_copy {post : Int32 → St2 → Prop} {i : Int32} (hl : l < 11) 
    (H : ∀ n, wX_descend_53 post (nI l) (nI t) (nI (l + 1)) i fr fc fk ff fd lv lx lw ly sn (n + 1) (nI 15) a1 a2 a3 a4 a5 (ie_cp ((l + 1) * 15) 15 a6) a7 a8 a9 a10 a11 a12) :
    ∃ n, wX_descend_53 post (nI l) (nI t) (nI (l + 1)) i fr fc fk ff fd lv lx lw ly sn n 0 a1 a2 a3 a4 a5 a6 a7 a8 a9 a10 a11 a12 := by
  refine Exists.elim (pk_loop (σ := Unit) (fun n k _ => wX_descend_53 post (nI l) (nI t) (nI (l + 1)) i fr fc fk ff fd lv lx lw ly sn n (nI k) a1 a2 a3 a4 a5 (ie_cp ((l + 1) * 15) k a6) a7 a8 a9 a10 a11 a12)
    (fun _ _ => True) 15 0 () (by omega) trivial (fun n _ _ => H n) (fun n k _ hk _ hw => ?_)) (fun n hn => ⟨n, ?_⟩)
  · have e1 : nI l * 15 + nI k = nI (l * 15 + k) := by rw [ie_15, nI_add]
    have e2 : nI (l + 1) * 15 + nI k = nI ((l + 1) * 15 + k) := by rw [ie_15, nI_add]
    refine pk_le 15 k (fun z => absurd z (by omega)) (fun _ => ⟨pk_in (l * 15 + k) 180 (by omega) e1, pk_in ((l + 1) * 15 + k) 180 (by omega) e2, ?_⟩)
    rw [e1, e2, nI_clamp (by omega), nI_clamp (by omega), ie_cp_lt a6 (show l * 15 + k < (l + 1) * 15 by omega), ie_cp_up (congrArg a6 (by omega))]
    exact nm_e (nm_r (nI_1 k) (hw () trivial))
  · rw [ie_cp_0] at hn
    exact hn
theorem ie_desc {post : Int32 → St2 → Prop} {e m g : Nat} {acc : ie_Ac} (hQ : ie_Q x c d P a1 a2 a3 a4) (hs : ie_C x c d s (l * 15) a6) (hok : ie_okP P) (hS : ie_okS P s = true) (hl : l < 11) (ht : t < 3)
    (hf : ie_fin P s t = false) (hS' : ie_okS P (ie_pf P s t) = true) (hw : w = true ↔ x = d) (h7 : a7 l = nI e) (h8 : a8 l = nI m) (h9 : a9 l = nI g) (he : e < 8) (hm : m < 8) (hg : g < 8)
    (hv : v < 4) (hA : ie_S x c d v X acc.1 fc fd sn a10 a11 a12)
    (H : ∀ fc' fd' sn' b6 b7 b8 b9 b10 b11 b12, ie_S x c d v X (ie_acc P w (ie_pf P s t) acc).1 fc' fd' sn' b10 b11 b12 → (∀ j, j < (l + 1) * 15 → b6 j = a6 j) →
      ie_C x c d (ie_pf P s t) ((l + 1) * 15) b6 → (∀ j, j < l → b7 j = a7 j ∧ b8 j = a8 j ∧ b9 j = a9 j) → b7 l = nI e → b8 l = nI (m &&& (7 - 2 ^ t)) → b9 l = nI (g ||| 2 ^ t) →
      b7 (l + 1) = nI (ie_slp P s (e ||| g) t) → b8 (l + 1) = nI (ie_able P w (ie_pf P s t) &&& (7 - ie_slp P s (e ||| g) t)) → b9 (l + 1) = nI 0 →
      post (nI (l + 1)) (fr, fc', ie_b (ie_acc P w (ie_pf P s t) acc).2, ff, fd', nI v, X, nI v, X, sn', a1, a2, a3, a4, a5, b6, b7, b8, b9, b10, b11, b12)) :
    wpX_descend post (fr, fc, ie_b acc.2, ff, fd, nI v, X, nI v, X, sn, a1, a2, a3, a4, a5, a6, a7, a8, a9, a10, a11, a12) (nI l) (nI t) := by
  have hlt := ie_slp_lt P s (e ||| g) t
  unfold wpX_descend
  refine nm_r (nI_1 l) (ie_slp_ok hQ hs hok hS (by omega) ht hf h7 h9 he hg ⟨pk_in (l + 1) 12 (by omega), ?_⟩)
  rw [nI_clamp (show l + 1 < 2 ^ 31 by omega), nI_clamp (show l < 2 ^ 31 by omega), h8, h9, (ie_or8 t ht g hg).1, (ie_an8 t ht m hm).1]
  refine nm_e ⟨pk_in l 12 (by omega), pk_in l 12 (by omega), nm_e ⟨pk_in l 12 (by omega), pk_in l 12 (by omega), nm_e ?_⟩⟩
  refine ie_nextOf hQ hs hok hS (by omega) ht (fun z => absurd z (by rw [hf]; decide)) (fun _ => ie_copy hl (fun n => ?_))
  have hc : ie_C x c d s ((l + 1) * 15) (ie_cp ((l + 1) * 15) 15 a6) := by
    refine ⟨hs.1, fun k hk => ?_⟩
    rw [ie_cp_in a6 hk, show (l + 1) * 15 + k - 15 = l * 15 + k by omega]
    exact hs.2 k hk
  refine pk_le 15 15 (fun _ => ?_) (fun z => absurd z (by omega))
  refine ie_perform hQ hc hok hS (by omega) ht hf (fun b6 hb hr => ?_)
  refine br_f (by decide) (ie_open_ok hQ hb hok hS' (by omega) hw (pk_us) hlt hv hA (fun fc' fd' sn' b10 b11 b12 h => ?_))
  refine H _ _ _ _ _ _ _ _ _ _ h (fun j hj => ?_) hb (fun j hj => ⟨?_, ?_, ?_⟩) ?_ ?_ ?_ pk_us pk_us pk_us
  · rw [hr j hj, ie_cp_lt a6 hj]
  · rw [pk_un (by omega)]
  · rw [pk_un (by omega), pk_un (by omega)]
  · rw [pk_un (by omega), pk_un (by omega)]
  · rw [pk_un (by omega), h7]
  · rw [pk_un (by omega), pk_us]
  · rw [pk_un (by omega), pk_us]
theorem ie_sim {post : St2 → Prop} {res : ie_Ac} (hQ : ie_Q x c d P a1 a2 a3 a4) (hok : ie_okP P) (hw : w = true ↔ x = d) (hv : v < 4) 
    (H : ∀ fc' fd' sn' b6 b7 b8 b9 b10 b11 b12, ie_S x c d v X res.1 fc' fd' sn' b10 b11 b12 →
      post (fr, fc', ie_b res.2, ff, fd', nI v, X, nI v, X, sn', a1, a2, a3, a4, a5, b6, b7, b8, b9, b10, b11, b12)) :
    ∀ (n : Nat) (st : List ie_Fr) (acc : ie_Ac) (k : Nat) (fc fd sn : Int32) (a6 a7 a8 a9 a10 a11 a12 : Nat → Int32), ie_run P w n st acc = some res → k + n < 200000 → st.length ≤ 12 →
      ie_R x c d a6 a7 a8 a9 st → ie_S x c d v X acc.1 fc fd sn a10 a11 a12 →
      wX_search_51 post n (ie_lev st) (nI k) fr fc (ie_b acc.2) ff fd (nI v) X (nI v) X sn a1 a2 a3 a4 a5 a6 a7 a8 a9 a10 a11 a12 := by
  intro n
  induction n with
  | zero =>
    intro st acc k fc fd sn a6 a7 a8 a9 a10 a11 a12 h
    exact absurd h (by unfold ie_run; exact fun z => nomatch z)
  | succ n ih =>
    intro st acc k fc fd sn a6 a7 a8 a9 a10 a11 a12 h hk hn hR hA
    cases st with
    | nil =>
      have e : acc = res := Option.some.inj h
      subst e
      exact pk_le 200000 k (fun z => absurd z (by omega)) (fun _ => br_t (show (-1 : Int32) < 0 by decide) (H _ _ _ _ _ _ _ _ _ _ hA))
    | cons f fs =>
      obtain ⟨s, e, m, g⟩ := f
      obtain ⟨⟨g1, g2, g3, g4, g5, g6, g7⟩, gR⟩ := hR
      dsimp only at g1 g2 g3 g4 g5 g6 g7
      rw [List.length_cons] at hn
      unfold ie_run at h
      dsimp only at h
      refine pk_le 200000 k (fun z => absurd z (by omega)) (fun _ => br_f (nI_pos (by omega)) ⟨pk_in fs.length 12 (by omega), ?_⟩)
      show ∀ y, y = a8 (nI fs.length).toNatClampNeg → _
      rw [nI_clamp (show fs.length < 2 ^ 31 by omega), g3]
      refine nm_e (ie_lowest g6 ?_)
      refine pk_eq m 0 (fun z => ?_) (fun z => ?_)
      · rw [if_pos z] at h
        exact nm_r (ie_lev_dn fs) (nm_r (nI_1 k) (ih fs acc (k + 1) _ _ _ _ _ _ _ _ _ _ h (by omega) (by omega) gR hA))
      · rw [if_neg z] at h
        by_cases hc : (ie_okS P s && (decide (fs.length < 11) && (!ie_fin P s (ie_low m) && ie_okS P (ie_pf P s (ie_low m))))) = true
        · rw [if_pos hc] at h
          simp only [Bool.and_eq_true, decide_eq_true_eq, Bool.not_eq_true'] at hc
          obtain ⟨c1, c2, c3, c4⟩ := hc
          have hu := ie_low_lt m
          refine ie_desc hQ g1 hok c1 c2 hu c3 c4 hw g2 g3 g4 g5 g6 g7 hv hA (fun fc' fd' sn' b6 b7 b8 b9 b10 b11 b12 i1 i2 i3 i4 i5 i6 i7 i8 i9 i10 => ?_)
          refine nm_r (nI_1 k) (ih _ _ (k + 1) _ _ _ _ _ _ _ _ _ _ h (by omega) (by rw [List.length_cons, List.length_cons]; omega) ⟨⟨i3, i8, i9, i10, ie_slp_lt _ _ _ _, (ie_andn _ (ie_able_lt _ _ _) _ (ie_slp_lt _ _ _ _)).2, (by decide : 0 < 8)⟩, ⟨⟨g1.1, fun q hq => ?_⟩, i5, i6, i7, g5, (ie_an8 _ hu m g6).2, (ie_or8 _ hu g g7).2⟩, ie_R_mono fs (fun j hj => i2 j (by omega)) i4 gR⟩ i1)
          rw [i2 _ (by omega)]
          exact g1.2 q hq
        · rw [if_neg hc] at h
          exact absurd h (fun z => nomatch z)
theorem ie_search_ok {post : St2 → Prop} {res : ie_Ac} (hQ : ie_Q x c d P a1 a2 a3 a4) (h5 : ∀ k, k < 4 → a5 k = ie_ev x c d (ie_g ie_s0 k)) (hok : ie_okP P) (hw : w = true ↔ x = d) (hv : v < 4)
    (hr : ie_srch P w = some res)
    (H : ∀ fc' fd' sn' b6 b7 b8 b9 b10 b11 b12, ie_S x c d v X res.1 fc' fd' sn' b10 b11 b12 →
      post (fr, fc', ie_b res.2, ff, fd', nI v, X, nI v, X, sn', a1, a2, a3, a4, a5, b6, b7, b8, b9, b10, b11, b12)) :
    wpX_search post (fr, 0, 0, ff, 0, nI v, X, nI v, X, 0, a1, a2, a3, a4, a5, a6, a7, a8, a9, a10, a11, a12) := by
  unfold ie_srch at hr
  by_cases h0 : ie_okS P ie_s0 = true
  · rw [if_pos h0] at hr
    refine Exists.elim (pk_loop (σ := Unit) (fun n k _ => wX_search_2 post fr 0 0 ff 0 (nI v) X (nI v) X 0 n (nI k) a1 a2 a3 a4 a5 (ie_mix k (fun j => if j < 4 then a5 j else 0) a6) a7 a8 a9 a10 a11 a12)
      (fun _ _ => True) 15 0 () (by omega) trivial (fun n _ _ => ?_) (fun n k _ hk _ hw => ?_)) (fun n hn => ⟨n, ?_⟩)
    · have hc : ie_C x c d ie_s0 (0 * 15) (ie_mix 15 (fun j => if j < 4 then a5 j else 0) a6) := by
        refine ⟨rfl, fun k hk => ?_⟩
        rw [Nat.zero_mul, Nat.zero_add, ie_mix_lt _ a6 hk]
        by_cases z : k < 4
        · rw [if_pos z]
          exact h5 k z
        · rw [if_neg z]
          have e : ∀ k, k < 15 → ¬ k < 4 → ie_g ie_s0 k = 0 := by decide
          rw [e k hk z]
          rfl
      have hA : ie_S x c d v X (([], false) : ie_Ac).1 0 0 0 a10 a11 a12 := ⟨Or.inr ⟨rfl, fun E hE => absurd hE List.not_mem_nil⟩, Or.inl ⟨rfl, rfl, rfl⟩⟩
      refine pk_le 15 15 (fun _ => nm_e ?_) (fun z => absurd z (by omega))
      refine ie_open_ok (l := 0) (e := 0) (acc := ([], false)) hQ hc hok h0 (by decide) hw pk_us (by decide) hv hA (fun fc' fd' sn' b10 b11 b12 h => ⟨200, ?_⟩)
      refine ie_sim hQ hok hw hv H 200 [ie_open P w ie_s0 0] _ 0 _ _ _ _ _ _ _ _ _ _ hr (by decide) (show 1 ≤ 12 by decide) ⟨⟨hc, pk_us, pk_us, pk_us, (by decide : 0 < 8), (ie_andn _ (ie_able_lt _ _ _) 0 (by decide)).2, (by decide : 0 < 8)⟩, trivial⟩ h
    · refine pk_le 15 k (fun z => absurd z (by omega)) (fun _ => ?_)
      refine pk_le 4 k (fun z => ⟨pk_in k 180 (by omega), ?_⟩) (fun z => ⟨pk_in k 4 (by omega), pk_in k 180 (by omega), ?_⟩)
      · rw [nI_clamp (by omega), ie_mix_up (f := fun j => if j < 4 then a5 j else 0) (if_neg (by omega)).symm]
        exact nm_e (nm_r (nI_1 k) (hw () trivial))
      · rw [nI_clamp (by omega), ie_mix_up (f := fun j => if j < 4 then a5 j else 0) (if_pos z).symm]
        exact nm_e (nm_r (nI_1 k) (hw () trivial))
    · rw [ie_mix_0] at hn
      exact hn
  · rw [if_neg h0] at hr
    exact absurd hr (fun z => nomatch z)
theorem ie_explore {post : St2 → Prop} {res : ie_Ac} (hQ : ie_Q x c d P a1 a2 a3 a4) (h5 : ∀ k, k < 4 → a5 k = ie_ev x c d (ie_g ie_s0 k)) (hok : ie_okP P) (hw : w = true ↔ x = d) (hv : v < 4)
    (hr : ie_srch P w = some res)
    (H : ∀ fc' fd' sn' b6 b7 b8 b9 b10 b11 b12, ie_S x c d v X res.1 fc' fd' sn' b10 b11 b12 →
      post (1, fc', ie_b res.2, 0, fd', nI v, X, nI v, X, sn', a1, a2, a3, a4, a5, b6, b7, b8, b9, b10, b11, b12)) :
    wpX_explore post (fr, fc, fk, ff, fd, lv, lx, lw, ly, sn, a1, a2, a3, a4, a5, a6, a7, a8, a9, a10, a11, a12) (nI v) X (nI v) X := by
  unfold wpX_explore
  exact ie_search_ok hQ h5 hok hw hv hr (fun fc' fd' sn' b6 b7 b8 b9 b10 b11 b12 h => H _ _ _ _ _ _ _ _ _ _ h)
end
end
section
/-- the object holds the program -/
def ie_I (x c d : Int32) (P : ie_Pg) (u : St2) : Prop := match u with
  | (fr, fc, fk, ff, fd, lv, lx, lw, ly, sn, a1, a2, a3, a4, a5, a6, a7, a8, a9, a10, a11, a12) => ie_Q x c d P a1 a2 a3 a4 ∧ ∀ k, k < 4 → a5 k = ie_ev x c d (ie_g ie_s0 k)
/-- and has not been searched since -/
def ie_J (x c d : Int32) (P : ie_Pg) (u : St2) : Prop := match u with
  | (fr, fc, fk, ff, fd, lv, lx, lw, ly, sn, a1, a2, a3, a4, a5, a6, a7, a8, a9, a10, a11, a12) => ie_Q x c d P a1 a2 a3 a4 ∧ (∀ k, k < 4 → a5 k = ie_ev x c d (ie_g ie_s0 k)) ∧ fr = 0
/-- and has been searched: the ends L, whether it sticks -/
def ie_D (x c d : Int32) (P : ie_Pg) (L : List (List Nat)) (k : Bool) (u : St2) : Prop := match u with
  | (fr, fc, fk, ff, fd, lv, lx, lw, ly, sn, a1, a2, a3, a4, a5, a6, a7, a8, a9, a10, a11, a12) => ie_Q x c d P a1 a2 a3 a4 ∧ (∀ k, k < 4 → a5 k = ie_ev x c d (ie_g ie_s0 k)) ∧ fr = 1 ∧ fk = ie_b k ∧ ff = 0 ∧ ∃ v X, ie_S x c d v X L fc fd sn a10 a11 a12
theorem ie_JI {x c d : Int32} {P : ie_Pg} {u : St2} (h : ie_J x c d P u) : ie_I x c d P u := by
  obtain ⟨fr, fc, fk, ff, fd, lv, lx, lw, ly, sn, a1, a2, a3, a4, a5, a6, a7, a8, a9, a10, a11, a12⟩ := u
  exact ⟨h.1, h.2.1⟩
theorem ie_DI {x c d : Int32} {P : ie_Pg} {L : List (List Nat)} {k : Bool} {u : St2} (h : ie_D x c d P L k u) : ie_I x c d P u := by
  obtain ⟨fr, fc, fk, ff, fd, lv, lx, lw, ly, sn, a1, a2, a3, a4, a5, a6, a7, a8, a9, a10, a11, a12⟩ := u
  exact ⟨h.1, h.2.1⟩
theorem ie_badT {post : Int32 → Prop} {t : Nat} (ht : t < 3) (H : post 0) : wpX_badThread post () (nI t) :=
  br_f (nI_pos (by omega)) (br_t (nI_lt (b := 3) ht (by decide)) H)
theorem ie_badV {post : Int32 → Prop} {v : Nat} (hv : v < 4) (H : post 0) : wpX_badVariable post () (nI v) :=
  br_f (nI_pos (by omega)) (br_t (nI_le (b := 3) (by omega) (by decide)) H)
theorem ie_S_fc {x c d : Int32} {v : Nat} {X : Int32} {L : List (List Nat)} {fc fd sn : Int32} {a10 a11 a12 : Nat → Int32} (h : ie_S x c d v X L fc fd sn a10 a11 a12) : fc = ie_b (!L.isEmpty) := by
  rcases h.2 with z | z
  · rw [z.1, z.2.1]
    rfl
  · cases L with
    | nil => exact absurd rfl z.1
    | cons a L => exact z.2.1
/-- all ends agree on the variables -/
def ie_agr (x c d : Int32) (L : List (List Nat)) : Prop := ∀ E, E ∈ L → ∀ F, F ∈ L → ∀ j, j < 4 → ie_v x c d E j = ie_v x c d F j
theorem ie_nar (b : Bool) : narrow .boolean (.int (ie_b b)) = .int (ie_b b) := by
  cases b <;> rfl
section
variable {x c d : Int32} {P : ie_Pg} {L : List (List Nat)} {k w : Bool} {u : St2} {t v : Nat}
theorem ie_prep {post : St2 → Prop} (hok : ie_okP P) (hw : w = true ↔ x = d) (hr : ie_srch P w = some (L, k)) (h : ie_J x c d P u ∨ ie_D x c d P L k u) (H : ∀ u', ie_D x c d P L k u' → post u') : wpX_prepare post u := by
  obtain ⟨fr, fc, fk, ff, fd, lv, lx, lw, ly, sn, a1, a2, a3, a4, a5, a6, a7, a8, a9, a10, a11, a12⟩ := u
  unfold wpX_prepare
  rcases h with h | h
  · obtain ⟨hQ, h5, e⟩ := h
    refine br_t e ?_
    exact ie_explore (v := 0) (X := 0) hQ h5 hok hw (by decide) hr (fun fc' fd' sn' b6 b7 b8 b9 b10 b11 b12 h => H _ ⟨hQ, h5, rfl, rfl, rfl, 0, 0, h⟩)
  · exact br_f (by rw [h.2.2.1]; decide) (H _ h)
theorem ie_canComplete {post : Int32 → St2 → Prop} (hok : ie_okP P) (hw : w = true ↔ x = d) (hr : ie_srch P w = some (L, k)) (h : ie_J x c d P u ∨ ie_D x c d P L k u)
    (H : ∀ u', ie_D x c d P L k u' → post (ie_b (!L.isEmpty)) u') : wpX_canComplete post u := by
  obtain ⟨fr, fc, fk, ff, fd, lv, lx, lw, ly, sn, a1, a2, a3, a4, a5, a6, a7, a8, a9, a10, a11, a12⟩ := u
  unfold wpX_canComplete
  refine ie_prep hok hw hr h (fun u' hD => ?_)
  have H' := H u' hD
  obtain ⟨fr, fc, fk, ff, fd, lv, lx, lw, ly, sn, a1, a2, a3, a4, a5, a6, a7, a8, a9, a10, a11, a12⟩ := u'
  obtain ⟨_, _, _, _, _, v, X, hS⟩ := hD
  have e := ie_S_fc hS
  subst e
  exact ⟨ie_nar _, H'⟩
theorem ie_canStick {post : Int32 → St2 → Prop} (hok : ie_okP P) (hw : w = true ↔ x = d) (hr : ie_srch P w = some (L, k)) (h : ie_J x c d P u ∨ ie_D x c d P L k u)
    (H : ∀ u', ie_D x c d P L k u' → post (ie_b k) u') : wpX_canStick post u := by
  obtain ⟨fr, fc, fk, ff, fd, lv, lx, lw, ly, sn, a1, a2, a3, a4, a5, a6, a7, a8, a9, a10, a11, a12⟩ := u
  unfold wpX_canStick
  refine ie_prep hok hw hr h (fun u' hD => ?_)
  have H' := H u' hD
  obtain ⟨fr, fc, fk, ff, fd, lv, lx, lw, ly, sn, a1, a2, a3, a4, a5, a6, a7, a8, a9, a10, a11, a12⟩ := u'
  obtain ⟨_, _, _, e, _⟩ := hD
  subst e
  exact ⟨ie_nar _, H'⟩
theorem ie_sh0 : ∀ t, t < 3 → ¬ (((0 : Int32) >>> (nI t &&& 31)) &&& 1) = 1 := by decide +kernel
theorem ie_canFail {post : Int32 → St2 → Prop} (hok : ie_okP P) (hw : w = true ↔ x = d) (hr : ie_srch P w = some (L, k)) (h : ie_J x c d P u ∨ ie_D x c d P L k u) (ht : t < 3)
    (H : ∀ u', ie_D x c d P L k u' → post 0 u') : wpX_canFail post u (nI t) := by
  obtain ⟨fr, fc, fk, ff, fd, lv, lx, lw, ly, sn, a1, a2, a3, a4, a5, a6, a7, a8, a9, a10, a11, a12⟩ := u
  unfold wpX_canFail
  refine ie_badT ht (br_t rfl (ie_prep hok hw hr h (fun u' hD => ?_)))
  have H' := H u' hD
  obtain ⟨fr, fc, fk, ff, fd, lv, lx, lw, ly, sn, a1, a2, a3, a4, a5, a6, a7, a8, a9, a10, a11, a12⟩ := u'
  obtain ⟨_, _, _, _, e, _⟩ := hD
  subst e
  exact br_f (ie_sh0 t ht) H'
theorem ie_least {post : Int32 → St2 → Prop} (hok : ie_okP P) (hw : w = true ↔ x = d) (hr : ie_srch P w = some (L, k)) (h : ie_J x c d P u ∨ ie_D x c d P L k u) (hv : v < 4)
    (H : ∀ u' r, ie_D x c d P L k u' → (L = [] → r = -2147483647) → (L ≠ [] → ie_mn x c d L v r) → post r u') : wpX_least post u (nI v) := by
  obtain ⟨fr, fc, fk, ff, fd, lv, lx, lw, ly, sn, a1, a2, a3, a4, a5, a6, a7, a8, a9, a10, a11, a12⟩ := u
  unfold wpX_least
  refine ie_badV hv (br_t rfl (ie_prep hok hw hr h (fun u' hD => ?_)))
  have H' := H u'
  obtain ⟨fr, fc, fk, ff, fd, lv, lx, lw, ly, sn, a1, a2, a3, a4, a5, a6, a7, a8, a9, a10, a11, a12⟩ := u'
  have hD' := hD
  obtain ⟨_, _, _, _, _, v', X, hS⟩ := hD
  rcases hS.2 with z | z
  · exact br_t z.2.1 (H' _ hD' (fun _ => rfl) (fun y => absurd z.1 y))
  · refine br_f (by rw [z.2.1]; decide) ⟨pk_in v 10 (by omega), ?_⟩
    rw [nI_clamp (by omega)]
    exact H' _ hD' (fun y => absurd y z.1) (fun _ => (z.2.2.1 v (by omega)).1)
theorem ie_greatest {post : Int32 → St2 → Prop} (hok : ie_okP P) (hw : w = true ↔ x = d) (hr : ie_srch P w = some (L, k)) (h : ie_J x c d P u ∨ ie_D x c d P L k u) (hv : v < 4)
    (H : ∀ u' r, ie_D x c d P L k u' → (L ≠ [] → ie_mx x c d L v r) → post r u') : wpX_greatest post u (nI v) := by
  obtain ⟨fr, fc, fk, ff, fd, lv, lx, lw, ly, sn, a1, a2, a3, a4, a5, a6, a7, a8, a9, a10, a11, a12⟩ := u
  unfold wpX_greatest
  refine ie_badV hv (br_t rfl (ie_prep hok hw hr h (fun u' hD => ?_)))
  have H' := H u'
  obtain ⟨fr, fc, fk, ff, fd, lv, lx, lw, ly, sn, a1, a2, a3, a4, a5, a6, a7, a8, a9, a10, a11, a12⟩ := u'
  have hD' := hD
  obtain ⟨_, _, _, _, _, v', X, hS⟩ := hD
  rcases hS.2 with z | z
  · exact br_t z.2.1 (H' _ hD' (fun y => absurd z.1 y))
  · refine br_f (by rw [z.2.1]; decide) ⟨pk_in v 10 (by omega), ?_⟩
    rw [nI_clamp (by omega)]
    exact H' _ hD' (fun _ => (z.2.2.1 v (by omega)).2)
theorem ie_leastReg {post : Int32 → St2 → Prop} (hok : ie_okP P) (hw : w = true ↔ x = d) (hr : ie_srch P w = some (L, k)) (h : ie_J x c d P u ∨ ie_D x c d P L k u) (ht : t < 3)
    (H : ∀ u' r, ie_D x c d P L k u' → (L ≠ [] → ie_mn x c d L (4 + t * 2) r) → post r u') : wpX_leastRegister post u (nI t) 0 := by
  obtain ⟨fr, fc, fk, ff, fd, lv, lx, lw, ly, sn, a1, a2, a3, a4, a5, a6, a7, a8, a9, a10, a11, a12⟩ := u
  unfold wpX_leastRegister
  refine ie_badT ht (br_t rfl (ie_prep hok hw hr h (fun u' hD => ?_)))
  have H' := H u'
  obtain ⟨fr, fc, fk, ff, fd, lv, lx, lw, ly, sn, a1, a2, a3, a4, a5, a6, a7, a8, a9, a10, a11, a12⟩ := u'
  have hD' := hD
  obtain ⟨_, _, _, _, _, v', X, hS⟩ := hD
  have e1 : (4 + nI t * 2) + ((0 : Int32) &&& 1) = nI (4 + t * 2) := by
    rw [show (0 : Int32) &&& 1 = nI 0 by decide, show (4 : Int32) = nI 4 from rfl, show (2 : Int32) = nI 2 from rfl, pk_mul, nI_add, nI_add, Nat.add_zero]
  rcases hS.2 with z | z
  · exact br_t z.2.1 (H' _ hD' (fun y => absurd z.1 y))
  · refine br_f (by rw [z.2.1]; decide) ⟨pk_in (4 + t * 2) 10 (by omega) e1, ?_⟩
    rw [e1, nI_clamp (by omega)]
    exact H' _ hD' (fun _ => (z.2.2.1 _ (by omega)).1)
theorem ie_canEnd {post : Int32 → St2 → Prop} {X : Int32} (hok : ie_okP P) (hw : w = true ↔ x = d) (hr : ie_srch P w = some (L, k)) (h : ie_I x c d P u) (hv : v < 4)
    (H : ∀ u' r, ie_D x c d P L k u' → ie_see x c d v X L r → post r u') : wpX_canEnd post u (nI v) X := by
  obtain ⟨fr, fc, fk, ff, fd, lv, lx, lw, ly, sn, a1, a2, a3, a4, a5, a6, a7, a8, a9, a10, a11, a12⟩ := u
  obtain ⟨hQ, h5⟩ := h
  unfold wpX_canEnd
  refine ie_badV hv (br_t rfl (ie_explore hQ h5 hok hw hv hr (fun fc' fd' sn' b6 b7 b8 b9 b10 b11 b12 hS => ?_)))
  have hD : ie_D x c d P L k (1, fc', ie_b k, 0, fd', nI v, X, nI v, X, sn', a1, a2, a3, a4, a5, b6, b7, b8, b9, b10, b11, b12) := ⟨hQ, h5, rfl, rfl, rfl, v, X, hS⟩
  have H' := H _ sn' hD hS.1
  rcases hS.1 with z | z
  · refine ⟨?_, H'⟩
    rw [z.1]
    rfl
  · refine ⟨?_, H'⟩
    rw [z.1]
    rfl
theorem ie_settled {post : Int32 → St2 → Prop} (hok : ie_okP P) (hw : w = true ↔ x = d) (hr : ie_srch P w = some (L, k)) (h : ie_J x c d P u ∨ ie_D x c d P L k u)
    (H : ∀ u' r, ie_D x c d P L k u' → (L = [] → r = 0) → (L ≠ [] → k = false → (r = 1 ∧ ie_agr x c d L) ∨ (r = 0 ∧ ¬ ie_agr x c d L)) → post r u') : wpX_settled post u := by
  obtain ⟨fr, fc, fk, ff, fd, lv, lx, lw, ly, sn, a1, a2, a3, a4, a5, a6, a7, a8, a9, a10, a11, a12⟩ := u
  unfold wpX_settled
  refine ie_prep hok hw hr h (fun u' hD => ?_)
  have H' := H u'
  obtain ⟨fr, fc, fk, ff, fd, lv, lx, lw, ly, sn, a1, a2, a3, a4, a5, a6, a7, a8, a9, a10, a11, a12⟩ := u'
  have hD' := hD
  obtain ⟨_, _, _, e, e0, v', X, hS⟩ := hD
  rcases hS.2 with z | ⟨z, z1, _, ⟨F, hF, hF'⟩, hd⟩
  · exact br_t z.2.1 (H' _ hD' (fun _ => rfl) (fun y => absurd z.1 y))
  · refine br_f (by rw [z1]; decide) ?_
    cases k with
    | true => exact br_f (by rw [e]; decide) (H' _ hD' (fun _ => rfl) (fun _ y => nomatch y))
    | false =>
      refine br_t e (br_t e0 ?_)
      rcases hd with ⟨r, hd⟩ | ⟨r, E, hE, j, hj, hd⟩
      · refine br_t r (H' _ hD' (fun y => absurd y z) (fun _ _ => Or.inl ⟨rfl, fun E hE G hG j hj => ?_⟩))
        rw [hd E hE j hj, hd G hG j hj]
      · refine br_f (by rw [r]; decide) (H' _ hD' (fun y => absurd y z) (fun _ _ => Or.inr ⟨rfl, fun ha => hd ?_⟩))
        rw [hF' j hj]
        exact ha E hE F hF j hj
theorem ie_drop {post : Int32 → St2 → Prop} (h : ie_I x c d P u) (hl : P.1.length = 3) (ht : t < 3) (H : ∀ u', ie_J x c d (ie_dr P t) u' → post (nI (ie_sz P t)) u') : wpX_drop post u (nI t) := by
  obtain ⟨fr, fc, fk, ff, fd, lv, lx, lw, ly, sn, a1, a2, a3, a4, a5, a6, a7, a8, a9, a10, a11, a12⟩ := u
  obtain ⟨hQ, h5⟩ := h
  unfold wpX_drop
  refine ie_badT ht (br_t rfl ⟨pk_in t 3 ht, ?_⟩)
  rw [nI_clamp (by omega), hQ.1 t ht]
  refine nm_e ⟨pk_in t 3 ht, nm_e (H _ ⟨⟨fun j hj => ?_, hQ.2⟩, h5, rfl⟩)⟩
  by_cases e : j = t
  · subst e
    rw [pk_us]
    unfold ie_dr ie_sz
    rw [ie_gs (by omega)]
    rfl
  · rw [pk_un e, hQ.1 j hj]
    unfold ie_dr ie_sz
    rw [ie_gn e]
/-- room for one more instruction -/
def ie_room (P : ie_Pg) (t : Nat) : Prop :=
  P.1.length = 3 ∧ P.2.1.length = 15 ∧ P.2.2.1.length = 15 ∧ P.2.2.2.length = 15 ∧ ie_sz P t < 5 ∧ ie_sz P 0 < 6 ∧ ie_sz P 1 < 6 ∧ ie_sz P 2 < 6 ∧ ie_sz P 0 + ie_sz P 1 + ie_sz P 2 < 10
theorem ie_emit {post : Int32 → St2 → Prop} {o a b : Nat} {y : Int32} (h : ie_I x c d P u) (ht : t < 3) (ho : o < 9) (hy : y = ie_ev x c d b) (hR : ie_room P t)
    (H : ∀ r u', ie_J x c d (ie_em P t o a b) u' → post r u') : wpX_emit post u (nI t) (nI o) (nI a) y := by
  obtain ⟨fr, fc, fk, ff, fd, lv, lx, lw, ly, sn, a1, a2, a3, a4, a5, a6, a7, a8, a9, a10, a11, a12⟩ := u
  obtain ⟨hQ, h5⟩ := h
  obtain ⟨l1, l2, l3, l4, r1, r2, r3, r4, r5⟩ := hR
  have e1 : nI t * 5 + nI (ie_sz P t) = nI (t * 5 + ie_sz P t) := by
    rw [show nI t * 5 = nI (t * 5) from pk_mul t 5, nI_add]
  have e2 : (nI (ie_sz P 0) + nI (ie_sz P 1)) + nI (ie_sz P 2) = nI (ie_sz P 0 + ie_sz P 1 + ie_sz P 2) := by
    rw [nI_add, nI_add]
  have hi : t * 5 + ie_sz P t < 15 := by omega
  unfold wpX_emit
  refine ie_badT ht (br_t rfl (br_f (nI_pos (by omega)) (br_t (nI_le (b := 8) (by omega) (by decide)) ⟨pk_in t 3 ht, ?_⟩)))
  rw [nI_clamp (show t < 2 ^ 31 by omega), hQ.1 t ht, hQ.1 0 (by decide), hQ.1 1 (by decide), hQ.1 2 (by decide), e1, e2]
  refine br_f (nI_ge (b := 5) r1 (by decide)) (br_t (nI_lt (b := 10) r5 (by decide)) ⟨pk_in t 3 ht, nm_e ?_⟩)
  rw [nI_clamp (show t * 5 + ie_sz P t < 2 ^ 31 by omega)]
  refine ⟨pk_in _ 15 hi, nm_e ⟨pk_in _ 15 hi, nm_e ⟨pk_in _ 15 hi, nm_e ⟨pk_in t 3 ht, pk_in t 3 ht, nm_e ⟨pk_in t 3 ht, ?_⟩⟩⟩⟩⟩
  refine H _ _ ⟨⟨fun j hj => ?_, fun i hi' => ?_⟩, h5, rfl⟩
  · by_cases e : j = t
    · subst e
      rw [pk_us, nI_1]
      unfold ie_em
      rw [show ∀ z, ie_sz (P.1.set j (ie_sz P j + 1), z) j = ie_sz P j + 1 from fun z => ie_gs (by omega)]
    · rw [pk_un e, hQ.1 j hj]
      exact congrArg nI (ie_gn (s := P.1) (z := ie_sz P t + 1) e).symm
  · by_cases e : i = t * 5 + ie_sz P t
    · subst e
      rw [pk_us, pk_us, pk_us, hy]
      exact ⟨congrArg nI (ie_gs (by omega)).symm, congrArg nI (ie_gs (by omega)).symm, congrArg (ie_ev x c d) (ie_gs (by omega)).symm⟩
    · rw [pk_un e, pk_un e, pk_un e]
      obtain ⟨q1, q2, q3⟩ := hQ.2 i hi'
      exact ⟨q1.trans (congrArg nI (ie_gn e).symm), q2.trans (congrArg nI (ie_gn e).symm), q3.trans (congrArg (ie_ev x c d) (ie_gn e).symm)⟩
end
end
section
section
variable {x c d : Int32} {P : ie_Pg} {t : Nat} {fr fc fk ff fd lv lx lw ly sn : Int32} {a1 a2 a3 a4 a5 a6 a7 a8 a9 a10 a11 a12 : Nat → Int32}
theorem ie_adds13 {post : St2 → Prop} {b : Nat} {y : Int32} {k : Bool} (h : ie_I x c d P (fr, fc, fk, ff, fd, lv, lx, lw, ly, sn, a1, a2, a3, a4, a5, a6, a7, a8, a9, a10, a11, a12)) (ht : t < 3) (hy : y = ie_ev x c d b) (r1 : ie_room P t) (r2 : ie_room (ie_em P t 0 0 1) t)
    (r3 : ie_room (ie_em (ie_em P t 0 0 1) t 2 0 b) t) (r4 : k = true → ie_room (ie_em (ie_em (ie_em P t 0 0 1) t 2 0 b) t 1 0 1) t)
    (H : ∀ u', ie_J x c d (cond k (ie_em (ie_em (ie_em (ie_em P t 0 0 1) t 2 0 b) t 1 0 1) t 5 0 0) (ie_em (ie_em (ie_em P t 0 0 1) t 2 0 b) t 1 0 1)) u' → post u') :
    wL_adds_13 post (nI t) y (ie_b k) fr fc fk ff fd lv lx lw ly sn a1 a2 a3 a4 a5 a6 a7 a8 a9 a10 a11 a12 := by
  unfold wL_adds_13
  refine ie_emit (o := 0) (a := 0) (b := 1) h ht (by decide) (ie_ev_c (n := 1) (by decide)).symm r1 (fun _ u1 h1 => ?_)
  obtain ⟨_, _, _, _, _, _, _, _, _, _, _, _, _, _, _, _, _, _, _, _, _, _⟩ := u1
  refine ie_emit (o := 2) (a := 0) (b := b) (ie_JI h1) ht (by decide) hy r2 (fun _ u2 h2 => ?_)
  obtain ⟨_, _, _, _, _, _, _, _, _, _, _, _, _, _, _, _, _, _, _, _, _, _⟩ := u2
  refine ie_emit (o := 1) (a := 0) (b := 1) (ie_JI h2) ht (by decide) (ie_ev_c (n := 1) (by decide)).symm r3 (fun _ u3 h3 => ?_)
  obtain ⟨_, _, _, _, _, _, _, _, _, _, _, _, _, _, _, _, _, _, _, _, _, _⟩ := u3
  cases k with
  | false => exact br_t rfl (H _ h3)
  | true =>
    refine br_f (by decide) (ie_emit (o := 5) (a := 0) (b := 0) (ie_JI h3) ht (by decide) (ie_ev_c (n := 0) (by decide)).symm (r4 rfl) (fun _ u4 h4 => ?_))
    obtain ⟨_, _, _, _, _, _, _, _, _, _, _, _, _, _, _, _, _, _, _, _, _, _⟩ := u4
    exact H _ h4
theorem ie_adds {post : St2 → Prop} {b : Nat} {y : Int32} {k : Bool} (h : ie_I x c d P (fr, fc, fk, ff, fd, lv, lx, lw, ly, sn, a1, a2, a3, a4, a5, a6, a7, a8, a9, a10, a11, a12)) (ht : t < 3) (hy : y = ie_ev x c d b)
    (r0 : k = false → ie_room P t ∧ ie_room (ie_em P t 0 0 1) t ∧ ie_room (ie_em (ie_em P t 0 0 1) t 2 0 b) t)
    (r1 : k = true → ie_room P t ∧ ie_room (ie_em P t 4 0 0) t ∧ ie_room (ie_em (ie_em P t 4 0 0) t 0 0 1) t ∧ ie_room (ie_em (ie_em (ie_em P t 4 0 0) t 0 0 1) t 2 0 b) t ∧ ie_room (ie_em (ie_em (ie_em (ie_em P t 4 0 0) t 0 0 1) t 2 0 b) t 1 0 1) t)
    (H : ∀ u', ie_J x c d (ie_ad P t b k) u' → post u') :
    wpL_adds post (fr, fc, fk, ff, fd, lv, lx, lw, ly, sn, a1, a2, a3, a4, a5, a6, a7, a8, a9, a10, a11, a12) (nI t) y (ie_b k) := by
  unfold wpL_adds
  cases k with
  | false =>
    have r := r0 rfl
    exact br_t rfl (ie_adds13 (k := false) h ht hy r.1 r.2.1 r.2.2 (fun z => nomatch z) H)
  | true =>
    have r := r1 rfl
    refine br_f (by decide) (ie_emit (o := 4) (a := 0) (b := 0) h ht (by decide) (ie_ev_c (n := 0) (by decide)).symm r.1 (fun _ u1 h1 => ?_))
    obtain ⟨_, _, _, _, _, _, _, _, _, _, _, _, _, _, _, _, _, _, _, _, _, _⟩ := u1
    exact ie_adds13 (k := true) (ie_JI h1) ht hy r.2.1 r.2.2.1 r.2.2.2.1 (fun _ => r.2.2.2.2) H
end
theorem ie_m01 : ie_room ie_P0 0 ∧ ie_room (ie_em ie_P0 0 0 0 1) 0 ∧ ie_room (ie_em (ie_em ie_P0 0 0 0 1) 0 2 0 104) 0 := by
  unfold ie_room
  decide +kernel
theorem ie_m02 : ie_room ie_P0 0 ∧ ie_room (ie_em ie_P0 0 4 0 0) 0 ∧ ie_room (ie_em (ie_em ie_P0 0 4 0 0) 0 0 0 1) 0 ∧ ie_room (ie_em (ie_em (ie_em ie_P0 0 4 0 0) 0 0 0 1) 0 2 0 104) 0 ∧ ie_room (ie_em (ie_em (ie_em (ie_em ie_P0 0 4 0 0) 0 0 0 1) 0 2 0 104) 0 1 0 1) 0 := by
  unfold ie_room
  decide +kernel
theorem ie_m03 (k : Bool) : ie_room (ie_ad ie_P0 0 104 k) 2 ∧ ie_room (ie_em (ie_ad ie_P0 0 104 k) 2 0 0 1) 2 ∧ ie_room (ie_em (ie_em (ie_ad ie_P0 0 104 k) 2 0 0 1) 2 2 0 105) 2 := by
  unfold ie_room
  cases k <;> decide +kernel
theorem ie_m04 (k : Bool) : ie_room (ie_ad ie_P0 0 104 k) 2 ∧ ie_room (ie_em (ie_ad ie_P0 0 104 k) 2 4 0 0) 2 ∧ ie_room (ie_em (ie_em (ie_ad ie_P0 0 104 k) 2 4 0 0) 2 0 0 1) 2 ∧ ie_room (ie_em (ie_em (ie_em (ie_ad ie_P0 0 104 k) 2 4 0 0) 2 0 0 1) 2 2 0 105) 2 ∧ ie_room (ie_em (ie_em (ie_em (ie_em (ie_ad ie_P0 0 104 k) 2 4 0 0) 2 0 0 1) 2 2 0 105) 2 1 0 1) 2 := by
  unfold ie_room
  cases k <;> decide +kernel
def ie_P1d (k1 k2 : Bool) : ie_Pg := ie_dr (ie_dr (ie_P1 k1 k2) 0) 2
theorem ie_m05 (k1 k2 : Bool) : (ie_P1 k1 k2).1.length = 3 ∧ (ie_dr (ie_P1 k1 k2) 0).1.length = 3 ∧ (ie_P2 k1 k2).1.length = 3 ∧ ie_sz (ie_P2 k1 k2) 0 = 2 := by
  cases k1 <;> cases k2 <;> decide +kernel
theorem ie_m06 (k1 k2 : Bool) : ie_room (ie_P1d k1 k2) 0 ∧ ie_room (ie_em (ie_P1d k1 k2) 0 4 0 0) 0 ∧ ie_room (ie_em (ie_em (ie_P1d k1 k2) 0 4 0 0) 0 4 1 0) 1 ∧
    ie_room (ie_em (ie_em (ie_em (ie_P1d k1 k2) 0 4 0 0) 0 4 1 0) 1 4 (cond k1 0 1) 0) 1 ∧
    ie_room (ie_em (ie_em (ie_em (ie_em (ie_P1d k1 k2) 0 4 0 0) 0 4 1 0) 1 4 (cond k1 0 1) 0) 1 4 (cond k1 1 0) 0) 2 := by
  unfold ie_room
  cases k1 <;> cases k2 <;> decide +kernel
/-- what the ends hold -/
theorem ie_f4 (k1 k2 : Bool) : (∀ E, E ∈ ie_e1 k1 k2 → ie_g E 4 = 101 ∨ ie_g E 4 = 103) ∧ (∃ E, E ∈ ie_e1 k1 k2 ∧ ie_g E 4 = 101) ∧ (∃ E, E ∈ ie_e1 k1 k2 ∧ ie_g E 4 = 103) := by
  cases k1 <;> cases k2 <;> decide +kernel
theorem ie_f8 (k1 k2 : Bool) : (∀ E, E ∈ ie_e1 k1 k2 → ie_g E 8 = 102 ∨ ie_g E 8 = 103) ∧ (∃ E, E ∈ ie_e1 k1 k2 ∧ ie_g E 8 = 102) ∧ (∃ E, E ∈ ie_e1 k1 k2 ∧ ie_g E 8 = 103) := by
  cases k1 <;> cases k2 <;> decide +kernel
theorem ie_fu (k1 k2 : Bool) (h : (k1 && k2) = false) : (∀ E, E ∈ ie_e1 k1 k2 → ie_g E 1 = 101 ∨ ie_g E 1 = 102 ∨ ie_g E 1 = 103) ∧ (∃ E, E ∈ ie_e1 k1 k2 ∧ ie_g E 1 = 101) ∧ (∃ E, E ∈ ie_e1 k1 k2 ∧ ie_g E 1 = 102) := by
  revert h
  cases k1 <;> cases k2 <;> decide +kernel
theorem ie_fs (k1 k2 : Bool) (h : (k1 && k2) = true) : ∀ E, E ∈ ie_e1 k1 k2 → ie_g E 1 = 103 := by
  revert h
  cases k1 <;> cases k2 <;> decide +kernel
theorem ie_fb (k1 k2 : Bool) : ∃ E, E ∈ ie_e1 k1 k2 ∧ ie_g E 1 = 103 := by
  cases k1 <;> cases k2 <;> decide +kernel
theorem ie_f0 (k1 k2 : Bool) : ∀ E, E ∈ ie_e1 k1 k2 → ∀ j, j < 4 → j ≠ 1 → ie_g E j = 0 := by
  cases k1 <;> cases k2 <;> decide +kernel
theorem ie_ne (k1 k2 : Bool) : ie_e1 k1 k2 ≠ [] := by
  cases k1 <;> cases k2 <;> decide +kernel
theorem ie_ev1 (x c d : Int32) : ie_ev x c d 101 = x + c := rfl
theorem ie_ev2 (x c d : Int32) : ie_ev x c d 102 = x + d := rfl
theorem ie_ev3 (x c d : Int32) : ie_ev x c d 103 = x + c + d := rfl
theorem ie_va {x c d : Int32} {E : List Nat} {k n : Nat} (h : ie_g E k = n) : ie_v x c d E k = ie_ev x c d n := congrArg (ie_ev x c d) h
theorem ie_mn_u {x c d : Int32} {L : List (List Nat)} {k : Nat} {r r' : Int32} (h : ie_mn x c d L k r) (h1 : ∃ E, E ∈ L ∧ r' = ie_v x c d E k) (h2 : ∀ E, E ∈ L → r' ≤ ie_v x c d E k) : r = r' := by
  obtain ⟨⟨E, hE, e⟩, hA⟩ := h
  obtain ⟨F, hF, f⟩ := h1
  refine ie_le_a ?_ ?_
  · rw [f]
    exact hA F hF
  · rw [e]
    exact h2 E hE
theorem ie_mx_u {x c d : Int32} {L : List (List Nat)} {k : Nat} {r r' : Int32} (h : ie_mx x c d L k r) (h1 : ∃ E, E ∈ L ∧ r' = ie_v x c d E k) (h2 : ∀ E, E ∈ L → ie_v x c d E k ≤ r') : r = r' := by
  obtain ⟨⟨E, hE, e⟩, hA⟩ := h
  obtain ⟨F, hF, f⟩ := h1
  refine ie_le_a ?_ ?_
  · rw [e]
    exact h2 E hE
  · rw [f]
    exact hA F hF
theorem ie_ne1 (a : Int32) : ¬ a = a + 1 := by
  intro h
  have h2 : (1 : Int32) = 0 := by grind
  exact absurd h2 (by decide)
section
variable {x c d : Int32} {k1 k2 : Bool} {r q : Int32}
theorem ie_q4 (h : ie_mn x c d (ie_e1 k1 k2) 4 r) (h1 : q = x + c ∨ q = x + c + d) (h2 : q ≤ x + c) (h3 : q ≤ x + c + d) : r = q := by
  obtain ⟨fa, ⟨E1, m1, e1⟩, ⟨E3, m3, e3⟩⟩ := ie_f4 k1 k2
  refine ie_mn_u h ?_ (fun E hE => ?_)
  · rcases h1 with z | z
    · exact ⟨E1, m1, by rw [ie_va e1, z]; rfl⟩
    · exact ⟨E3, m3, by rw [ie_va e3, z]; rfl⟩
  · rcases fa E hE with z | z
    · rw [ie_va z]
      exact h2
    · rw [ie_va z]
      exact h3
theorem ie_q8 (h : ie_mn x c d (ie_e1 k1 k2) 8 r) (h1 : q = x + d ∨ q = x + c + d) (h2 : q ≤ x + d) (h3 : q ≤ x + c + d) : r = q := by
  obtain ⟨fa, ⟨E1, m1, e1⟩, ⟨E3, m3, e3⟩⟩ := ie_f8 k1 k2
  refine ie_mn_u h ?_ (fun E hE => ?_)
  · rcases h1 with z | z
    · exact ⟨E1, m1, by rw [ie_va e1, z]; rfl⟩
    · exact ⟨E3, m3, by rw [ie_va e3, z]; rfl⟩
  · rcases fa E hE with z | z
    · rw [ie_va z]
      exact h2
    · rw [ie_va z]
      exact h3
theorem ie_in (hs : (k1 && k2) = false) (h1 : q = x + c ∨ q = x + d ∨ q = x + c + d) : ∃ E, E ∈ ie_e1 k1 k2 ∧ q = ie_v x c d E 1 := by
  obtain ⟨fa, ⟨E1, m1, e1⟩, ⟨E2, m2, e2⟩⟩ := ie_fu k1 k2 hs
  obtain ⟨E3, m3, e3⟩ := ie_fb k1 k2
  rcases h1 with z | z | z
  · exact ⟨E1, m1, by rw [ie_va e1, z]; rfl⟩
  · exact ⟨E2, m2, by rw [ie_va e2, z]; rfl⟩
  · exact ⟨E3, m3, by rw [ie_va e3, z]; rfl⟩
theorem ie_al (hs : (k1 && k2) = false) {p : Int32 → Prop} (h1 : p (x + c)) (h2 : p (x + d)) (h3 : p (x + c + d)) : ∀ E, E ∈ ie_e1 k1 k2 → p (ie_v x c d E 1) := by
  intro E hE
  rcases (ie_fu k1 k2 hs).1 E hE with z | z | z
  · rw [ie_va z]
    exact h1
  · rw [ie_va z]
    exact h2
  · rw [ie_va z]
    exact h3
theorem ie_as (hs : (k1 && k2) = true) : ∀ E, E ∈ ie_e1 k1 k2 → ie_v x c d E 1 = x + c + d := by
  intro E hE
  rw [ie_va (ie_fs k1 k2 hs E hE)]
  rfl
theorem ie_bo : ∃ E, E ∈ ie_e1 k1 k2 ∧ x + c + d = ie_v x c d E 1 := by
  obtain ⟨E3, m3, e3⟩ := ie_fb k1 k2
  exact ⟨E3, m3, by rw [ie_va e3]; rfl⟩
theorem ie_q1s (hs : (k1 && k2) = true) (h : ie_mn x c d (ie_e1 k1 k2) 1 r) : r = x + c + d := by
  obtain ⟨⟨E, hE, e⟩, _⟩ := h
  rw [e]
  exact ie_as hs E hE
theorem ie_p1s (hs : (k1 && k2) = true) (h : ie_mx x c d (ie_e1 k1 k2) 1 r) : r = x + c + d := by
  obtain ⟨⟨E, hE, e⟩, _⟩ := h
  rw [e]
  exact ie_as hs E hE
theorem ie_see1 {X : Int32} (h : ie_see x c d 1 X (ie_e1 k1 k2) r) (hX : ∃ E, E ∈ ie_e1 k1 k2 ∧ X = ie_v x c d E 1) : r = 1 := by
  obtain ⟨E, hE, e⟩ := hX
  rcases h with z | z
  · exact z.1
  · exact absurd e.symm (z.2 E hE)
theorem ie_see0 {X : Int32} (h : ie_see x c d 1 X (ie_e1 k1 k2) r) (hX : ∀ E, E ∈ ie_e1 k1 k2 → ¬ ie_v x c d E 1 = X) : r = 0 := by
  rcases h with ⟨_, E, hE, e⟩ | z
  · exact absurd e (hX E hE)
  · exact z.1
theorem ie_agu (hs : (k1 && k2) = false) : ie_agr x c d (ie_e1 k1 k2) ↔ (x + c = x + c + d ∧ x + d = x + c + d) := by
  obtain ⟨E1, m1, e1⟩ := ie_in (x := x) (c := c) (d := d) hs (Or.inl rfl)
  obtain ⟨E2, m2, e2⟩ := ie_in (x := x) (c := c) (d := d) hs (Or.inr (Or.inl rfl))
  obtain ⟨E3, m3, e3⟩ := ie_in (x := x) (c := c) (d := d) hs (Or.inr (Or.inr rfl))
  constructor
  · intro h
    rw [e3, e1, e2]
    exact ⟨h E1 m1 E3 m3 1 (by decide), h E2 m2 E3 m3 1 (by decide)⟩
  · intro h E hE F hF j hj
    by_cases z : j = 1
    · subst z
      have q := ie_al (x := x) (c := c) (d := d) hs (p := fun y => y = x + c + d) h.1 h.2 rfl
      rw [q E hE, q F hF]
    · rw [ie_va (ie_f0 k1 k2 E hE j hj z), ie_va (ie_f0 k1 k2 F hF j hj z)]
theorem ie_ags (hs : (k1 && k2) = true) : ie_agr x c d (ie_e1 k1 k2) := by
  intro E hE F hF j hj
  by_cases z : j = 1
  · subst z
    rw [ie_as hs E hE, ie_as hs F hF]
  · rw [ie_va (ie_f0 k1 k2 E hE j hj z), ie_va (ie_f0 k1 k2 F hF j hj z)]
end
theorem ie_Ll {post : Int32 → Prop} {p q : Int32} (H : ∀ r, (r = p ∨ r = q) → r ≤ p → r ≤ q → post r) : wpL_least post () p q :=
  br_c (fun z => H _ (Or.inr rfl) z (ie_le_r _)) (fun z => H _ (Or.inl rfl) (ie_le_r _) (ie_nle z))
theorem ie_Lm {post : Int32 → Prop} {p q : Int32} (H : ∀ r, (r = p ∨ r = q) → p ≤ r → q ≤ r → post r) : wpL_most post () p q :=
  br_c (fun z => H _ (Or.inr rfl) z (ie_le_r _)) (fun z => H _ (Or.inl rfl) (ie_le_r _) (ie_nle z))
end
section
section
variable {x c d : Int32} {k1 k2 w : Bool} {post : Int32 → St0 → Prop} {mc ms kc ks : Nat} {fr fc fk ff fd lv lx lw ly sn : Int32} {a1 a2 a3 a4 a5 a6 a7 a8 a9 a10 a11 a12 : Nat → Int32}
theorem ie_L576 {L : List (List Nat)} {k : Bool} {z0 z1 : Int32} (hw : w = true ↔ x = d) (hr : ie_srch (ie_P3 k1 k2) w = some (L, k)) (hp : post 1 ()) (hz : z1 = z0) (hD : ie_D x c d (ie_P3 k1 k2) L k (fr, fc, fk, ff, fd, lv, lx, lw, ly, sn, a1, a2, a3, a4, a5, a6, a7, a8, a9, a10, a11, a12)) :
    wL_lawOf_576 post mc ms (ie_b k) z0 z1 kc ks fr fc fk ff fd lv lx lw ly sn a1 a2 a3 a4 a5 a6 a7 a8 a9 a10 a11 a12 := by
  unfold wL_lawOf_576
  refine br_t hz (ie_canStick (ie_o3 k1 k2) hw hr (Or.inr hD) (fun u' _ => ?_))
  obtain ⟨_, _, _, _, _, _, _, _, _, _, _, _, _, _, _, _, _, _, _, _, _, _⟩ := u'
  exact br_t rfl hp
theorem ie_L558 {z0 z1 : Int32} (hw : w = true ↔ x = d) (hp : post 1 ()) (hz : z1 = z0) (hD : ie_D x c d (ie_P3 k1 k2) (ie_e3 w) (!w) (fr, fc, fk, ff, fd, lv, lx, lw, ly, sn, a1, a2, a3, a4, a5, a6, a7, a8, a9, a10, a11, a12)) :
    wL_lawOf_558 post mc ms (ie_b (!w)) z0 z1 kc ks fr fc fk ff fd lv lx lw ly sn a1 a2 a3 a4 a5 a6 a7 a8 a9 a10 a11 a12 := by
  unfold wL_lawOf_558
  refine br_t hz (ie_settled (ie_o3 k1 k2) hw (ie_r3 k1 k2 w) (Or.inr hD) (fun u' r hD' q0 q1 => ?_))
  obtain ⟨_, _, _, _, _, _, _, _, _, _, _, _, _, _, _, _, _, _, _, _, _, _⟩ := u'
  cases w with
  | false => exact br_f (by decide) (ie_L576 hw (ie_r3 k1 k2 false) hp (q0 rfl) hD')
  | true =>
    refine br_t rfl (ie_L576 hw (ie_r3 k1 k2 true) hp ?_ hD')
    rcases q1 (List.cons_ne_nil _ _) rfl with z | z
    · exact z.1
    · refine absurd (fun E hE F hF j _ => ?_) z.2
      rw [List.mem_singleton.mp hE, List.mem_singleton.mp hF]
theorem ie_L486 (hw : w = true ↔ x = d) (hp : post 1 ()) (hJ : ie_J x c d (ie_P2 k1 k2) (fr, fc, fk, ff, fd, lv, lx, lw, ly, sn, a1, a2, a3, a4, a5, a6, a7, a8, a9, a10, a11, a12)) :
    wL_lawOf_486 post mc ms x (ie_b (!w)) kc ks fr fc fk ff fd lv lx lw ly sn a1 a2 a3 a4 a5 a6 a7 a8 a9 a10 a11 a12 := by
  have o2 := ie_o2 k1 k2
  have r2 := ie_r2 k1 k2 w
  have m5 := ie_m05 k1 k2
  unfold wL_lawOf_486
  refine ie_canStick o2 hw r2 (Or.inl hJ) (fun u' hD => ?_)
  obtain ⟨_, _, _, _, _, _, _, _, _, _, _, _, _, _, _, _, _, _, _, _, _, _⟩ := u'
  refine br_f (by decide) (ie_canComplete o2 hw r2 (Or.inr hD) (fun u' hD => ?_))
  obtain ⟨_, _, _, _, _, _, _, _, _, _, _, _, _, _, _, _, _, _, _, _, _, _⟩ := u'
  refine br_t rfl (ie_least (v := 1) o2 hw r2 (Or.inr hD) (by decide) (fun u' r hD q _ => ?_))
  obtain ⟨_, _, _, _, _, _, _, _, _, _, _, _, _, _, _, _, _, _, _, _, _, _⟩ := u'
  refine br_t (q rfl) (ie_settled o2 hw r2 (Or.inr hD) (fun u' r hD q _ => ?_))
  obtain ⟨_, _, _, _, _, _, _, _, _, _, _, _, _, _, _, _, _, _, _, _, _, _⟩ := u'
  refine br_t (q rfl) (ie_canEnd (v := 1) o2 hw r2 (ie_DI hD) (by decide) (fun u' r hD q => ?_))
  obtain ⟨_, _, _, _, _, _, _, _, _, _, _, _, _, _, _, _, _, _, _, _, _, _⟩ := u'
  have q' : r = 0 := by
    rcases q with ⟨_, E, hE, _⟩ | z
    · exact absurd hE List.not_mem_nil
    · exact z.1
  refine br_t q' (ie_drop (t := 0) (ie_DI hD) m5.2.2.1 (by decide) (fun u' hJ => ?_))
  obtain ⟨_, _, _, _, _, _, _, _, _, _, _, _, _, _, _, _, _, _, _, _, _, _⟩ := u'
  refine br_t (by rw [m5.2.2.2]; rfl) (ie_canComplete (ie_o3 k1 k2) hw (ie_r3 k1 k2 w) (Or.inl hJ) (fun u' hD => ?_))
  obtain ⟨_, _, _, _, _, _, _, _, _, _, _, _, _, _, _, _, _, _, _, _, _, _⟩ := u'
  cases w with
  | false => exact br_f (by decide) (ie_L558 hw hp rfl hD)
  | true => exact br_t rfl (ie_L558 hw hp rfl hD)
theorem ie_L460 (hp : post 1 ()) (hJ : ie_J x c d (ie_em (ie_em (ie_em (ie_P1d k1 k2) 0 4 0 0) 0 4 1 0) 1 4 (cond k1 0 1) 0) (fr, fc, fk, ff, fd, lv, lx, lw, ly, sn, a1, a2, a3, a4, a5, a6, a7, a8, a9, a10, a11, a12)) :
    wL_lawOf_460 post mc ms x d (nI (cond k1 1 0)) 4 1 kc ks fr fc fk ff fd lv lx lw ly sn a1 a2 a3 a4 a5 a6 a7 a8 a9 a10 a11 a12 := by
  have m6 := ie_m06 k1 k2
  unfold wL_lawOf_460
  refine ie_emit (t := 1) (o := 4) (b := 0) (ie_JI hJ) (by decide) (by decide) (ie_ev_c (n := 0) (by decide)).symm m6.2.2.2.1 (fun _ u' h1 => ?_)
  obtain ⟨_, _, _, _, _, _, _, _, _, _, _, _, _, _, _, _, _, _, _, _, _, _⟩ := u'
  refine ie_emit (t := 2) (o := 8) (a := 1) (b := 105) (ie_JI h1) (by decide) (by decide) rfl m6.2.2.2.2 (fun _ u' h2 => ?_)
  obtain ⟨_, _, _, _, _, _, _, _, _, _, _, _, _, _, _, _, _, _, _, _, _, _⟩ := u'
  refine br_c (fun z => ?_) (fun z => ?_)
  · exact ie_L486 (w := true) ⟨fun _ => z, fun _ => rfl⟩ hp h2
  · exact ie_L486 (w := false) ⟨(fun y => nomatch y), fun y => absurd y z⟩ hp h2
theorem ie_L441 (hp : post 1 ()) (hJ : ie_J x c d (ie_em (ie_em (ie_P1d k1 k2) 0 4 0 0) 0 4 1 0) (fr, fc, fk, ff, fd, lv, lx, lw, ly, sn, a1, a2, a3, a4, a5, a6, a7, a8, a9, a10, a11, a12)) :
    wL_lawOf_441 post mc ms x d (ie_b k1) (nI (cond k1 0 1)) 4 1 kc ks fr fc fk ff fd lv lx lw ly sn a1 a2 a3 a4 a5 a6 a7 a8 a9 a10 a11 a12 := by
  have m6 := ie_m06 k1 k2
  unfold wL_lawOf_441
  refine ie_emit (t := 1) (o := 4) (b := 0) (ie_JI hJ) (by decide) (by decide) (ie_ev_c (n := 0) (by decide)).symm m6.2.2.1 (fun _ u' h1 => ?_)
  obtain ⟨_, _, _, _, _, _, _, _, _, _, _, _, _, _, _, _, _, _, _, _, _, _⟩ := u'
  cases k1 with
  | false => exact br_t rfl (ie_L460 (k1 := false) hp h1)
  | true => exact br_f (by decide) (ie_L460 (k1 := true) hp h1)
theorem ie_L352 {z0 z1 : Int32} (hw : w = true ↔ x = d) (hp : post 1 ()) (hz : z1 = z0) (hD : ie_D x c d (ie_P1 k1 k2) (ie_e1 k1 k2) false (fr, fc, fk, ff, fd, lv, lx, lw, ly, sn, a1, a2, a3, a4, a5, a6, a7, a8, a9, a10, a11, a12)) :
    wL_lawOf_352 post mc ms x d (ie_b k1) (x + c + d) (x + c) (x + d) z0 z1 kc ks fr fc fk ff fd lv lx lw ly sn a1 a2 a3 a4 a5 a6 a7 a8 a9 a10 a11 a12 := by
  have o1 := ie_o1 k1 k2
  have r1 := ie_r1 k1 k2 w
  have m5 := ie_m05 k1 k2
  have m6 := ie_m06 k1 k2
  have ne := ie_ne k1 k2
  unfold wL_lawOf_352
  refine br_t hz (ie_leastReg (t := 0) o1 hw r1 (Or.inr hD) (by decide) (fun u' r hD q => ?_))
  obtain ⟨_, _, _, _, _, _, _, _, _, _, _, _, _, _, _, _, _, _, _, _, _, _⟩ := u'
  refine ie_Ll (fun s s1 s2 s3 => br_t (ie_q4 (q ne) s1 s2 s3) ?_)
  refine ie_leastReg (t := 2) o1 hw r1 (Or.inr hD) (by decide) (fun u' r hD q => ?_)
  obtain ⟨_, _, _, _, _, _, _, _, _, _, _, _, _, _, _, _, _, _, _, _, _, _⟩ := u'
  refine ie_Ll (fun s s1 s2 s3 => br_t (ie_q8 (q ne) s1 s2 s3) ?_)
  refine ie_drop (t := 0) (ie_DI hD) m5.1 (by decide) (fun u' h1 => ?_)
  obtain ⟨_, _, _, _, _, _, _, _, _, _, _, _, _, _, _, _, _, _, _, _, _, _⟩ := u'
  refine ie_drop (t := 2) (ie_JI h1) m5.2.1 (by decide) (fun u' h2 => ?_)
  obtain ⟨_, _, _, _, _, _, _, _, _, _, _, _, _, _, _, _, _, _, _, _, _, _⟩ := u'
  refine ie_emit (t := 0) (o := 4) (a := 0) (b := 0) (ie_JI h2) (by decide) (by decide) (ie_ev_c (n := 0) (by decide)).symm m6.1 (fun _ u' h3 => ?_)
  obtain ⟨_, _, _, _, _, _, _, _, _, _, _, _, _, _, _, _, _, _, _, _, _, _⟩ := u'
  refine ie_emit (t := 0) (o := 4) (a := 1) (b := 0) (ie_JI h3) (by decide) (by decide) (ie_ev_c (n := 0) (by decide)).symm m6.2.1 (fun _ u' h4 => ?_)
  obtain ⟨_, _, _, _, _, _, _, _, _, _, _, _, _, _, _, _, _, _, _, _, _, _⟩ := u'
  cases k1 with
  | false => exact br_t rfl (ie_L441 (k1 := false) hp h4)
  | true => exact br_f (by decide) (ie_L441 (k1 := true) hp h4)
theorem ie_L311 {z0 z1 : Int32} (hw : w = true ↔ x = d) (hp : post 1 ()) (hz : z1 = z0) (hD : ie_D x c d (ie_P1 k1 k2) (ie_e1 k1 k2) false (fr, fc, fk, ff, fd, lv, lx, lw, ly, sn, a1, a2, a3, a4, a5, a6, a7, a8, a9, a10, a11, a12)) :
    wL_lawOf_311 post mc ms x d (ie_b k1) (ie_b (k1 && k2)) (x + c + d) (x + c) (x + d) z0 z1 kc ks fr fc fk ff fd lv lx lw ly sn a1 a2 a3 a4 a5 a6 a7 a8 a9 a10 a11 a12 := by
  unfold wL_lawOf_311
  refine br_t hz (ie_canEnd (v := 1) (ie_o1 k1 k2) hw (ie_r1 k1 k2 w) (ie_DI hD) (by decide) (fun u' r hD q => ?_))
  obtain ⟨_, _, _, _, _, _, _, _, _, _, _, _, _, _, _, _, _, _, _, _, _, _⟩ := u'
  cases hs : (k1 && k2) with
  | true =>
    refine br_f (by decide) (ie_L352 hw hp (ie_see0 q (fun E hE e => ?_)) hD)
    rw [ie_as hs E hE] at e
    exact ie_ne1 _ e
  | false =>
    refine br_t rfl (br_c (fun e1 => ie_L352 hw hp (ie_see1 q (ie_in hs (Or.inl e1.symm))) hD) (fun e1 => br_c (fun e2 => ie_L352 hw hp (ie_see1 q (ie_in hs (Or.inr (Or.inl e2.symm)))) hD) (fun e2 => ?_)))
    exact ie_L352 hw hp (ie_see0 q (ie_al hs (p := fun y => ¬ y = x + c + d + 1) e1 e2 (ie_ne1 _))) hD
theorem ie_L277 {z0 z1 : Int32} (hw : w = true ↔ x = d) (hp : post 1 ()) (hz : z1 = z0) (hD : ie_D x c d (ie_P1 k1 k2) (ie_e1 k1 k2) false (fr, fc, fk, ff, fd, lv, lx, lw, ly, sn, a1, a2, a3, a4, a5, a6, a7, a8, a9, a10, a11, a12)) :
    wL_lawOf_277 post mc ms x d (ie_b k1) (ie_b (k1 && k2)) (x + c + d) (x + c) (x + d) z0 z1 kc ks fr fc fk ff fd lv lx lw ly sn a1 a2 a3 a4 a5 a6 a7 a8 a9 a10 a11 a12 := by
  unfold wL_lawOf_277
  refine br_t hz (ie_settled (ie_o1 k1 k2) hw (ie_r1 k1 k2 w) (Or.inr hD) (fun u' r hD _ q => ?_))
  have q := q (ie_ne k1 k2) rfl
  have n1 : ie_agr x c d (ie_e1 k1 k2) → r = 1 := fun h => by
    rcases q with z | z
    · exact z.1
    · exact absurd h z.2
  have n0 : ¬ ie_agr x c d (ie_e1 k1 k2) → r = 0 := fun h => by
    rcases q with z | z
    · exact absurd z.2 h
    · exact z.1
  obtain ⟨_, _, _, _, _, _, _, _, _, _, _, _, _, _, _, _, _, _, _, _, _, _⟩ := u'
  have M : ∀ z, r = z → wL_lawOf_311 post mc ms x d (ie_b k1) (ie_b (k1 && k2)) (x + c + d) (x + c) (x + d) z r kc ks _ _ _ _ _ _ _ _ _ _ _ _ _ _ _ _ _ _ _ _ _ _ := fun z hz => ie_L311 hw hp hz hD
  cases hs : (k1 && k2) with
  | true =>
    rw [hs] at M
    exact br_f (by decide) (M 1 (n1 (ie_ags hs)))
  | false =>
    rw [hs] at M
    have g := ie_agu (x := x) (c := c) (d := d) hs
    refine br_t rfl (br_c (fun e1 => br_c (fun e2 => M 1 (n1 (g.mpr ⟨e1, e2⟩))) (fun e2 => M 0 (n0 (fun h => e2 (g.mp h).2)))) (fun e1 => M 0 (n0 (fun h => e1 (g.mp h).1))))
theorem ie_L249 {z0 z1 : Int32} (hw : w = true ↔ x = d) (hp : post 1 ()) (hz : z1 = z0) (hD : ie_D x c d (ie_P1 k1 k2) (ie_e1 k1 k2) false (fr, fc, fk, ff, fd, lv, lx, lw, ly, sn, a1, a2, a3, a4, a5, a6, a7, a8, a9, a10, a11, a12)) :
    wL_lawOf_249 post mc ms x d (ie_b k1) (ie_b (k1 && k2)) (x + c + d) (x + c) (x + d) z0 z1 kc ks fr fc fk ff fd lv lx lw ly sn a1 a2 a3 a4 a5 a6 a7 a8 a9 a10 a11 a12 := by
  unfold wL_lawOf_249
  refine br_t hz (ie_canEnd (v := 1) (ie_o1 k1 k2) hw (ie_r1 k1 k2 w) (ie_DI hD) (by decide) (fun u' r hD q => ?_))
  obtain ⟨_, _, _, _, _, _, _, _, _, _, _, _, _, _, _, _, _, _, _, _, _, _⟩ := u'
  have M : ∀ z, r = z → wL_lawOf_277 post mc ms x d (ie_b k1) (ie_b (k1 && k2)) (x + c + d) (x + c) (x + d) z r kc ks _ _ _ _ _ _ _ _ _ _ _ _ _ _ _ _ _ _ _ _ _ _ := fun z hz => ie_L277 hw hp hz hD
  cases hs : (k1 && k2) with
  | true =>
    rw [hs] at M
    refine br_f (by decide) (br_c (fun e => M 1 (ie_see1 q ?_)) (fun e => M 0 (ie_see0 q (fun E hE f => ?_))))
    · rw [e]
      exact ie_bo
    · rw [ie_as hs E hE] at f
      exact e f.symm
  | false =>
    rw [hs] at M
    exact br_t rfl (M 1 (ie_see1 q (ie_in hs (Or.inr (Or.inl rfl)))))
theorem ie_L208 {z0 z1 : Int32} (hw : w = true ↔ x = d) (hp : post 1 ()) (hz : z1 = z0) (hD : ie_D x c d (ie_P1 k1 k2) (ie_e1 k1 k2) false (fr, fc, fk, ff, fd, lv, lx, lw, ly, sn, a1, a2, a3, a4, a5, a6, a7, a8, a9, a10, a11, a12)) :
    wL_lawOf_208 post mc ms x d (ie_b k1) (ie_b (k1 && k2)) (x + c + d) (x + c) (x + d) z0 z1 kc ks fr fc fk ff fd lv lx lw ly sn a1 a2 a3 a4 a5 a6 a7 a8 a9 a10 a11 a12 := by
  unfold wL_lawOf_208
  refine br_t hz (ie_canEnd (v := 1) (ie_o1 k1 k2) hw (ie_r1 k1 k2 w) (ie_DI hD) (by decide) (fun u' r hD q => ?_))
  obtain ⟨_, _, _, _, _, _, _, _, _, _, _, _, _, _, _, _, _, _, _, _, _, _⟩ := u'
  refine br_f (by rw [ie_see1 q ie_bo]; decide) (ie_canEnd (v := 1) (ie_o1 k1 k2) hw (ie_r1 k1 k2 w) (ie_DI hD) (by decide) (fun u' r hD q => ?_))
  obtain ⟨_, _, _, _, _, _, _, _, _, _, _, _, _, _, _, _, _, _, _, _, _, _⟩ := u'
  have M : ∀ z, r = z → wL_lawOf_249 post mc ms x d (ie_b k1) (ie_b (k1 && k2)) (x + c + d) (x + c) (x + d) z r kc ks _ _ _ _ _ _ _ _ _ _ _ _ _ _ _ _ _ _ _ _ _ _ := fun z hz => ie_L249 hw hp hz hD
  cases hs : (k1 && k2) with
  | true =>
    rw [hs] at M
    refine br_f (by decide) (br_c (fun e => M 1 (ie_see1 q ?_)) (fun e => M 0 (ie_see0 q (fun E hE f => ?_))))
    · rw [e]
      exact ie_bo
    · rw [ie_as hs E hE] at f
      exact e f.symm
  | false =>
    rw [hs] at M
    exact br_t rfl (M 1 (ie_see1 q (ie_in hs (Or.inl rfl))))
theorem ie_L187 {x12 z0 z1 : Int32} (hw : w = true ↔ x = d) (hp : post 1 ()) (hz : z1 = z0) (hD : ie_D x c d (ie_P1 k1 k2) (ie_e1 k1 k2) false (fr, fc, fk, ff, fd, lv, lx, lw, ly, sn, a1, a2, a3, a4, a5, a6, a7, a8, a9, a10, a11, a12))
    (h1 : x12 = x + c ∨ x12 = x + d ∨ x12 = x + c + d) (h2 : x + c ≤ x12) (h3 : x + d ≤ x12) (h4 : x + c + d ≤ x12) :
    wL_lawOf_187 post mc ms x d (ie_b k1) (ie_b (k1 && k2)) (x + c + d) (x + c) (x + d) x12 z0 z1 kc ks fr fc fk ff fd lv lx lw ly sn a1 a2 a3 a4 a5 a6 a7 a8 a9 a10 a11 a12 := by
  unfold wL_lawOf_187
  refine br_t hz (ie_greatest (v := 1) (ie_o1 k1 k2) hw (ie_r1 k1 k2 w) (Or.inr hD) (by decide) (fun u' r hD q => ?_))
  have q := q (ie_ne k1 k2)
  obtain ⟨_, _, _, _, _, _, _, _, _, _, _, _, _, _, _, _, _, _, _, _, _, _⟩ := u'
  have M : ∀ z, r = z → wL_lawOf_208 post mc ms x d (ie_b k1) (ie_b (k1 && k2)) (x + c + d) (x + c) (x + d) z r kc ks _ _ _ _ _ _ _ _ _ _ _ _ _ _ _ _ _ _ _ _ _ _ := fun z hz => ie_L208 hw hp hz hD
  cases hs : (k1 && k2) with
  | true =>
    rw [hs] at M
    exact br_f (by decide) (M _ (ie_p1s hs q))
  | false =>
    rw [hs] at M
    exact br_t rfl (M _ (ie_mx_u q (ie_in hs h1) (ie_al hs (p := fun y => y ≤ x12) h2 h3 h4)))
theorem ie_L78 (hw : w = true ↔ x = d) (hp : post 1 ()) (hJ : ie_J x c d (ie_P1 k1 k2) (fr, fc, fk, ff, fd, lv, lx, lw, ly, sn, a1, a2, a3, a4, a5, a6, a7, a8, a9, a10, a11, a12)) :
    wL_lawOf_78 post mc ms x c d (ie_b k1) (ie_b (k1 && k2)) kc ks fr fc fk ff fd lv lx lw ly sn a1 a2 a3 a4 a5 a6 a7 a8 a9 a10 a11 a12 := by
  have o1 := ie_o1 k1 k2
  have r1 := ie_r1 k1 k2 w
  have hb : ie_b (!(ie_e1 k1 k2).isEmpty) = 1 := by
    cases k1 <;> cases k2 <;> rfl
  unfold wL_lawOf_78
  refine nm_e (nm_e (nm_e (ie_canComplete o1 hw r1 (Or.inl hJ) (fun u' hD => ?_))))
  obtain ⟨_, _, _, _, _, _, _, _, _, _, _, _, _, _, _, _, _, _, _, _, _, _⟩ := u'
  refine br_f (by rw [hb]; decide) (ie_canStick o1 hw r1 (Or.inr hD) (fun u' hD => ?_))
  obtain ⟨_, _, _, _, _, _, _, _, _, _, _, _, _, _, _, _, _, _, _, _, _, _⟩ := u'
  refine br_t rfl (ie_canFail (t := 0) o1 hw r1 (Or.inr hD) (by decide) (fun u' hD => ?_))
  obtain ⟨_, _, _, _, _, _, _, _, _, _, _, _, _, _, _, _, _, _, _, _, _, _⟩ := u'
  refine br_t rfl (ie_canFail (t := 2) o1 hw r1 (Or.inr hD) (by decide) (fun u' hD => ?_))
  obtain ⟨_, _, _, _, _, _, _, _, _, _, _, _, _, _, _, _, _, _, _, _, _, _⟩ := u'
  refine br_t rfl (ie_Ll (fun p p1 p2 p3 => ie_Ll (fun q q1 q2 q3 => ie_Lm (fun g g1 g2 g3 => ie_Lm (fun h h1 h2 h3 => ?_)))))
  refine ie_least (v := 1) o1 hw r1 (Or.inr hD) (by decide) (fun u' r hD _ y => ?_)
  have y := y (ie_ne k1 k2)
  obtain ⟨_, _, _, _, _, _, _, _, _, _, _, _, _, _, _, _, _, _, _, _, _, _⟩ := u'
  have n1 : h = x + c ∨ h = x + d ∨ h = x + c + d := by
    rcases h1 with e | e
    · rcases g1 with e' | e'
      · exact Or.inl (e.trans e')
      · exact Or.inr (Or.inl (e.trans e'))
    · exact Or.inr (Or.inr e)
  have n2 : q = x + c ∨ q = x + d ∨ q = x + c + d := by
    rcases q1 with e | e
    · rcases p1 with e' | e'
      · exact Or.inl (e.trans e')
      · exact Or.inr (Or.inl (e.trans e'))
    · exact Or.inr (Or.inr e)
  have M : ∀ z, r = z → wL_lawOf_187 post mc ms x d (ie_b k1) (ie_b (k1 && k2)) (x + c + d) (x + c) (x + d) h z r kc ks _ _ _ _ _ _ _ _ _ _ _ _ _ _ _ _ _ _ _ _ _ _ := fun z hz => ie_L187 hw hp hz hD n1 (ie_le_t g2 h2) (ie_le_t g3 h2) h3
  cases hs : (k1 && k2) with
  | true =>
    rw [hs] at M
    exact br_f (by decide) (M _ (ie_q1s hs y))
  | false =>
    rw [hs] at M
    exact br_t rfl (M _ (ie_mn_u y (ie_in hs n2) (ie_al hs (p := fun y => q ≤ y) (ie_le_t q2 p2) (ie_le_t q2 p3) q3)))
theorem ie_L35 (hp : post 1 ()) :
    wL_lawOf_35 post mc ms x c d (ie_b k1) (ie_b k2) kc ks fr fc fk ff fd lv lx lw ly sn (fun _ => 0) (fun _ => 0) (fun _ => 0) (fun _ => 0) (fun _ => 0) a6 a7 a8 a9 a10 a11 a12 := by
  have hJ : ∀ fr', fr' = 0 → ie_J x c d ie_P0 (fr', fc, fk, ff, fd, lv, lx, lw, ly, sn, (fun _ => 0), (fun _ => 0), (fun _ => 0), (fun _ => 0), upd (fun _ => 0) 1 x, a6, a7, a8, a9, a10, a11, a12) := by
    intro fr' e
    have s0 : ∀ t, t < 3 → ie_sz ie_P0 t = 0 := by decide
    have s1 : ∀ t, t < 15 → ie_op ie_P0 t = 0 ∧ ie_A ie_P0 t = 0 ∧ ie_B ie_P0 t = 0 := by decide
    refine ⟨⟨fun t ht => ?_, fun i hi => ?_⟩, fun k hk => ?_, e⟩
    · rw [s0 t ht]
      rfl
    · rw [(s1 i hi).1, (s1 i hi).2.1, (s1 i hi).2.2]
      exact ⟨rfl, rfl, rfl⟩
    · rcases (show k = 0 ∨ k = 1 ∨ k = 2 ∨ k = 3 by omega) with z | z | z | z
      · subst z
        rfl
      · subst z
        rfl
      · subst z
        rfl
      · subst z
        rfl
  unfold wL_lawOf_35
  refine br_f (by decide) (br_t (by decide) ⟨pk_in 1 4 (by decide), ?_⟩)
  refine nm_e ⟨pk_in 1 4 (by decide), nm_e ?_⟩
  refine ie_adds (t := 0) (b := 104) (y := c) (k := k1) (ie_JI (hJ 0 rfl)) (by decide) rfl (fun _ => ie_m01) (fun _ => ie_m02) (fun u' h1 => ?_)
  obtain ⟨_, _, _, _, _, _, _, _, _, _, _, _, _, _, _, _, _, _, _, _, _, _⟩ := u'
  refine ie_adds (t := 2) (b := 105) (y := d) (k := k2) (ie_JI h1) (by decide) rfl (fun _ => ie_m03 k1) (fun _ => ie_m04 k1) (fun u' h2 => ?_)
  obtain ⟨_, _, _, _, _, _, _, _, _, _, _, _, _, _, _, _, _, _, _, _, _, _⟩ := u'
  obtain ⟨w, hw⟩ : ∃ w : Bool, (w = true ↔ x = d) := by
    by_cases e : x = d
    · exact ⟨true, ⟨fun _ => e, fun _ => rfl⟩⟩
    · exact ⟨false, ⟨(fun y => nomatch y), fun y => absurd y e⟩⟩
  have M := ie_L78 (post := post) (mc := mc) (ms := ms) (kc := kc) (ks := ks) (k1 := k1) (k2 := k2) hw hp h2
  revert M
  cases k1
  · exact fun M => br_t rfl M
  · cases k2
    · exact fun M => br_f (by decide) (br_t rfl M)
    · exact fun M => br_f (by decide) (br_f (by decide) M)
theorem ie_L21 {x3 : Int32} (hp : post 1 ()) :
    wL_lawOf_21 post mc ms x c d x3 (ie_b k1) kc ks fr fc fk ff fd lv lx lw ly sn (fun _ => 0) (fun _ => 0) (fun _ => 0) (fun _ => 0) (fun _ => 0) a6 a7 a8 a9 a10 a11 a12 := by
  unfold wL_lawOf_21
  exact br_c (fun _ => ie_L35 (k1 := k1) (k2 := true) hp) (fun _ => ie_L35 (k1 := k1) (k2 := false) hp)
end
theorem ie_lawOf {post : Int32 → St0 → Prop} {x c d y : Int32} (hp : post 1 ()) : wpL_lawOf post 13 314 () x c d y := by
  unfold wpL_lawOf
  refine ⟨by decide, by decide, 12, 292, by decide, by decide, ?_⟩
  unfold wpX_init
  refine ⟨by decide, by decide, by decide, by decide, by decide, by decide, by decide, by decide, by decide, by decide, by decide, by decide, by decide, by decide, by decide, by decide, by decide, by decide, by decide, by decide, by decide, by decide, by decide, by decide, ?_⟩
  exact br_c (fun _ => ie_L21 (k1 := true) hp) (fun _ => ie_L21 (k1 := false) hp)
end
section
theorem ie_cell {post : Int32 → Prop} (xs : Nat → Int32) (L : Nat) (hL : L ≤ 4) (k : Nat) (hk : k < 4) (H : ∀ r, post r) : wpL_cellAt post L xs () (nI k) :=
  pk_le L k (fun _ => H _) (fun z => ⟨pk_in k L z, H _⟩)
theorem i_vc (xs : Nat → Int32) (L : Nat) (hL : L ≤ 4) : wpL_law (fun r => r = 1) L xs := by
  unfold wpL_law
  refine ie_cell xs L hL 0 (by decide) (fun r1 => ie_cell xs L hL 1 (by decide) (fun r2 => ie_cell xs L hL 2 (by decide) (fun r3 => ie_cell xs L hL 3 (by decide) (fun r4 => ?_))))
  exact ⟨13, 314, by decide, by decide, ie_lawOf rfl⟩
end
