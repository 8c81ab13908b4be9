section
/-! ===== the pure picture: jobs in a row, the admission as a run over a sorted list ===== -/
/-- x into an ascending list -/
def lj_ins (x : Nat) : List Nat → List Nat
  | [] => [x]
  | m :: t => if x ≤ m then x :: m :: t else m :: lj_ins x t
/-- the longest initial part whose sum is at most e -/
def lj_cut (e : Nat) : List Nat → List Nat
  | [] => []
  | m :: t => if m ≤ e then m :: lj_cut (e - m) t else []
def lj_F (f : Bool) (F x : Nat) : Nat := match f with
  | true => F + x
  | false => F
def lj_K (f : Bool) (K : Nat) : Nat := match f with
  | true => K + 1
  | false => K
def lj_M (f : Bool) (x : Nat) (M : List Nat) : List Nat := match f with
  | true => M
  | false => lj_ins x M
/-- the admission: F, K the firm jobs' time and number, M the lengths of the others that are in -/
def lj_run (F K : Nat) (M : List Nat) : List (Nat × Nat × Bool) → Option Nat
  | [] => some (K + M.length)
  | (x, d, f) :: js => if lj_F f F x ≤ d then lj_run (lj_F f F x) (lj_K f K) (lj_cut (d - lj_F f F x) (lj_M f x M)) js else none
def lj_srt (M : List Nat) : Prop := M.Pairwise (fun a b => a ≤ b)
theorem lj_ins_len (x : Nat) (M : List Nat) : (lj_ins x M).length = M.length + 1 := by
  induction M with
  | nil => rfl
  | cons m t ih =>
    unfold lj_ins
    split
    · rfl
    · simp [ih]
theorem lj_ins_sum (x : Nat) (M : List Nat) : (lj_ins x M).sum = x + M.sum := by
  induction M with
  | nil => rfl
  | cons m t ih =>
    unfold lj_ins
    split
    · simp
    · simp only [List.sum_cons, ih]
      omega
theorem lj_ins_perm (x : Nat) (M : List Nat) : (lj_ins x M).Perm (x :: M) := by
  induction M with
  | nil => exact List.Perm.refl _
  | cons m t ih =>
    unfold lj_ins
    split
    · exact List.Perm.refl _
    · exact (List.Perm.cons m ih).trans (List.Perm.swap x m t)
theorem lj_ins_srt (x : Nat) {M : List Nat} (h : lj_srt M) : lj_srt (lj_ins x M) := by
  induction M with
  | nil => exact List.pairwise_singleton _ _
  | cons m t ih =>
    have h' := List.pairwise_cons.mp h
    unfold lj_ins
    split
    · rename_i hx
      refine List.pairwise_cons.mpr ⟨fun b hb => ?_, h⟩
      rcases List.mem_cons.mp hb with e | e
      · omega
      · have := h'.1 b e
        omega
    · rename_i hx
      refine List.pairwise_cons.mpr ⟨fun b hb => ?_, ih h'.2⟩
      rcases List.mem_cons.mp ((lj_ins_perm x t).mem_iff.mp hb) with e | e
      · omega
      · exact h'.1 b e
theorem lj_cut_mem {e : Nat} {M : List Nat} {b : Nat} (h : b ∈ lj_cut e M) : b ∈ M := by
  induction M generalizing e with
  | nil => exact absurd h (by simp [lj_cut])
  | cons m t ih =>
    unfold lj_cut at h
    split at h
    · rcases List.mem_cons.mp h with z | z
      · exact List.mem_cons.mpr (Or.inl z)
      · exact List.mem_cons.mpr (Or.inr (ih z))
    · exact absurd h (by simp)
theorem lj_cut_srt {e : Nat} {M : List Nat} (h : lj_srt M) : lj_srt (lj_cut e M) := by
  induction M generalizing e with
  | nil => exact List.Pairwise.nil
  | cons m t ih =>
    have h' := List.pairwise_cons.mp h
    unfold lj_cut
    split
    · exact List.pairwise_cons.mpr ⟨fun b hb => h'.1 b (lj_cut_mem hb), ih h'.2⟩
    · exact List.Pairwise.nil
theorem lj_cut_take {e c : Nat} {M : List Nat} (h : c ≤ (lj_cut e M).length) : (lj_cut e M).take c = M.take c := by
  induction M generalizing e c with
  | nil => rfl
  | cons m t ih =>
    cases c with
    | zero => rfl
    | succ c =>
      unfold lj_cut at h ⊢
      split at h
      · rename_i hm
        rw [if_pos hm, List.take_succ_cons, List.take_succ_cons, ih (by simpa using h)]
      · exact absurd h (by simp)
theorem lj_cut_len {e : Nat} {M : List Nat} : (lj_cut e M).length ≤ M.length := by
  induction M generalizing e with
  | nil => exact Nat.le_refl _
  | cons m t ih =>
    unfold lj_cut
    split
    · have := ih (e := e - m)
      simp only [List.length_cons]
      omega
    · simp
theorem lj_cut_sum {e : Nat} {M : List Nat} : (lj_cut e M).sum ≤ e := by
  induction M generalizing e with
  | nil => exact Nat.zero_le _
  | cons m t ih =>
    unfold lj_cut
    split
    · have := ih (e := e - m)
      simp only [List.sum_cons]
      omega
    · simp
theorem lj_cut_max {e c : Nat} {M : List Nat} (hc : c ≤ M.length) (h : (M.take c).sum ≤ e) : c ≤ (lj_cut e M).length := by
  induction M generalizing e c with
  | nil => exact hc
  | cons m t ih =>
    cases c with
    | zero => exact Nat.zero_le _
    | succ c =>
      rw [List.take_succ_cons, List.sum_cons] at h
      rw [List.length_cons] at hc
      unfold lj_cut
      rw [if_pos (by omega), List.length_cons]
      exact Nat.succ_le_succ (ih (by omega) (by omega))
theorem lj_cut_all {e : Nat} {M : List Nat} (h : M.sum ≤ e) : lj_cut e M = M := by
  induction M generalizing e with
  | nil => rfl
  | cons m t ih =>
    rw [List.sum_cons] at h
    unfold lj_cut
    rw [if_pos (by omega), ih (by omega)]
theorem lj_cut_last {e m : Nat} {M : List Nat} (h : e < (M ++ [m]).sum) : lj_cut e (M ++ [m]) = lj_cut e M := by
  induction M generalizing e with
  | nil =>
    have h' : e < m := by simpa using h
    show lj_cut e [m] = []
    unfold lj_cut
    rw [if_neg (by omega)]
  | cons a t ih =>
    rw [List.cons_append, List.sum_cons] at h
    rw [List.cons_append]
    unfold lj_cut
    by_cases z : a ≤ e
    · rw [if_pos z, if_pos z, ih (by omega)]
    · rw [if_neg z, if_neg z]
theorem lj_take_le (M : List Nat) : ∀ c c', c ≤ c' → (M.take c).sum ≤ (M.take c').sum := by
  induction M with
  | nil => intro c c' _; simp
  | cons m t ih =>
    intro c c' h
    cases c with
    | zero => simp
    | succ c =>
      cases c' with
      | zero => omega
      | succ c' =>
        rw [List.take_succ_cons, List.take_succ_cons, List.sum_cons, List.sum_cons]
        have := ih c c' (by omega)
        omega
theorem lj_take_sum (M : List Nat) (c : Nat) : (M.take c).sum ≤ M.sum := by
  induction M generalizing c with
  | nil => simp
  | cons m t ih =>
    cases c with
    | zero => simp
    | succ c =>
      rw [List.take_succ_cons, List.sum_cons, List.sum_cons]
      have := ih c
      omega
theorem lj_take_up (x : Nat) (t : List Nat) : ∀ j, j < t.length → (∀ b ∈ t, x ≤ b) → (t.take j).sum + x ≤ (t.take (j + 1)).sum := by
  induction t with
  | nil => intro j h; exact absurd h (by simp)
  | cons m t ih =>
    intro j h hb
    cases j with
    | zero =>
      have := hb m (List.mem_cons_self ..)
      simp
      omega
    | succ j =>
      have := ih j (by simpa using h) (fun b hb' => hb b (List.mem_cons_of_mem _ hb'))
      rw [List.take_succ_cons, List.take_succ_cons, List.sum_cons, List.sum_cons]
      omega
theorem lj_U1 (x : Nat) {M : List Nat} (hs : lj_srt M) : ∀ c, c ≤ M.length → ((lj_ins x M).take c).sum ≤ (M.take c).sum := by
  induction M with
  | nil =>
    intro c hc
    have : c = 0 := by simpa using hc
    subst this
    simp
  | cons m t ih =>
    intro c hc
    have h' := List.pairwise_cons.mp hs
    cases c with
    | zero => simp
    | succ c =>
      rw [List.length_cons] at hc
      unfold lj_ins
      split
      · rename_i hx
        rw [List.take_succ_cons, List.take_succ_cons, List.sum_cons, List.sum_cons]
        cases c with
        | zero => simpa using hx
        | succ j =>
          rw [List.take_succ_cons, List.sum_cons]
          have := lj_take_up x t j (by omega) (fun b hb => by have := h'.1 b hb; omega)
          omega
      · rw [List.take_succ_cons, List.take_succ_cons, List.sum_cons, List.sum_cons]
        have := ih h'.2 c (by omega)
        omega
theorem lj_U2 (x : Nat) (M : List Nat) : ∀ c, ((lj_ins x M).take (c + 1)).sum ≤ (M.take c).sum + x := by
  induction M with
  | nil =>
    intro c
    simp [lj_ins]
  | cons m t ih =>
    intro c
    unfold lj_ins
    split
    · rw [List.take_succ_cons, List.sum_cons]
      omega
    · rw [List.take_succ_cons, List.sum_cons]
      cases c with
      | zero =>
        simp
        omega
      | succ k =>
        rw [List.take_succ_cons, List.sum_cons]
        have := ih k
        omega
theorem lj_L (x : Nat) (M : List Nat) : ∀ c, c ≤ M.length → (M.take c).sum + x ≤ ((lj_ins x M).take (c + 1)).sum ∨ (c + 1 ≤ M.length ∧ (M.take (c + 1)).sum ≤ ((lj_ins x M).take (c + 1)).sum) := by
  induction M with
  | nil =>
    intro c hc
    have : c = 0 := by simpa using hc
    subst this
    left
    simp [lj_ins]
  | cons m t ih =>
    intro c hc
    rw [List.length_cons] at hc
    unfold lj_ins
    split
    · left
      rw [List.take_succ_cons, List.sum_cons]
      omega
    · rw [List.take_succ_cons, List.take_succ_cons, List.sum_cons, List.sum_cons, List.length_cons]
      cases c with
      | zero =>
        right
        simp
      | succ k =>
        rw [List.take_succ_cons, List.sum_cons]
        rcases ih k (by omega) with h | ⟨h1, h2⟩
        · left
          omega
        · right
          exact ⟨by omega, by omega⟩
/-- M' holds at most one more than M, and what it holds takes no less -/
def lj_rel (M M' : List Nat) : Prop := ∀ c, c + 1 ≤ M'.length → c ≤ M.length ∧ (M.take c).sum ≤ (M'.take (c + 1)).sum
theorem lj_rel_new (x : Nat) (M : List Nat) : lj_rel M (lj_ins x M) := by
  intro c hc
  rw [lj_ins_len] at hc
  refine ⟨by omega, ?_⟩
  rcases lj_L x M c (by omega) with h | ⟨_, h⟩
  · omega
  · have := lj_take_le M c (c + 1) (by omega)
    omega
theorem lj_rel_cutR {M M' : List Nat} (e : Nat) (h : lj_rel M M') : lj_rel M (lj_cut e M') := by
  intro c hc
  have := h c (Nat.le_trans hc lj_cut_len)
  rw [lj_cut_take hc]
  exact this
theorem lj_rel_cut {M M' : List Nat} (e : Nat) (h : lj_rel M M') : lj_rel (lj_cut e M) (lj_cut e M') := by
  intro c hc
  obtain ⟨h1, h2⟩ := lj_rel_cutR e h c hc
  have h3 := lj_take_sum (lj_cut e M') (c + 1)
  have h4 := lj_cut_sum (e := e) (M := M')
  have h5 := lj_cut_max h1 (show (M.take c).sum ≤ e by omega)
  exact ⟨h5, by rw [lj_cut_take h5]; exact h2⟩
theorem lj_rel_ins {M M' : List Nat} (x : Nat) (hs : lj_srt M) (h : lj_rel M M') : lj_rel (lj_ins x M) (lj_ins x M') := by
  intro c hc
  rw [lj_ins_len] at hc
  rw [lj_ins_len]
  cases c with
  | zero => exact ⟨by omega, by simp⟩
  | succ k =>
    obtain ⟨h1, h2⟩ := h k (by omega)
    refine ⟨by omega, ?_⟩
    rcases lj_L x M' (k + 1) (by omega) with g | ⟨g1, g2⟩
    · have := lj_U2 x M k
      omega
    · obtain ⟨h3, h4⟩ := h (k + 1) (by omega)
      have := lj_U1 x hs (k + 1) h3
      omega
theorem lj_rel_M {M M' : List Nat} (f : Bool) (x : Nat) (hs : lj_srt M) (h : lj_rel M M') : lj_rel (lj_M f x M) (lj_M f x M') := by
  cases f with
  | true => exact h
  | false => exact lj_rel_ins x hs h
theorem lj_M_srt {M : List Nat} (f : Bool) (x : Nat) (hs : lj_srt M) : lj_srt (lj_M f x M) := by
  cases f with
  | true => exact hs
  | false => exact lj_ins_srt x hs
theorem lj_runRel (js : List (Nat × Nat × Bool)) : ∀ F K M M', lj_srt M → lj_rel M M' → ∀ c', lj_run F K M' js = some c' → ∃ c, lj_run F K M js = some c ∧ c' ≤ c + 1 := by
  induction js with
  | nil =>
    intro F K M M' hs h c' e
    have e' : K + M'.length = c' := Option.some.inj e
    refine ⟨K + M.length, rfl, ?_⟩
    rcases Nat.eq_zero_or_pos M'.length with z | z
    · omega
    · have := (h (M'.length - 1) (by omega)).1
      omega
  | cons j js ih =>
    obtain ⟨x, d, f⟩ := j
    intro F K M M' hs h c' e
    unfold lj_run at e ⊢
    by_cases z : lj_F f F x ≤ d
    · rw [if_pos z] at e ⊢
      exact ih _ _ _ _ (lj_cut_srt (lj_M_srt f x hs)) (lj_rel_cut _ (lj_rel_M f x hs h)) c' e
    · rw [if_neg z] at e
      exact absurd e (by simp)
/-- one more job that isn't firm: at most one more in time -/
theorem lj_runIns (l1 l2 : List (Nat × Nat × Bool)) (x d : Nat) : ∀ F K M, lj_srt M → ∀ c', lj_run F K M (l1 ++ (x, d, false) :: l2) = some c' → ∃ c, lj_run F K M (l1 ++ l2) = some c ∧ c' ≤ c + 1 := by
  induction l1 with
  | nil =>
    intro F K M hs c' e
    rw [List.nil_append] at e ⊢
    unfold lj_run at e
    by_cases z : lj_F false F x ≤ d
    · rw [if_pos z] at e
      exact lj_runRel l2 F K M _ hs (lj_rel_cutR _ (lj_rel_new x M)) c' e
    · rw [if_neg z] at e
      exact absurd e (by simp)
  | cons j js ih =>
    obtain ⟨y, b, f⟩ := j
    intro F K M hs c' e
    rw [List.cons_append] at e ⊢
    unfold lj_run at e ⊢
    by_cases z : lj_F f F y ≤ b
    · rw [if_pos z] at e ⊢
      exact ih _ _ _ (lj_cut_srt (lj_M_srt f y hs)) c' e
    · rw [if_neg z] at e
      exact absurd e (by simp)
end
section
/-! ===== bits (rows of BITS.to-paste, renamed) ===== -/
def lj_bt (x : Int32) (i : Nat) : Bool := x.toBitVec.getLsbD i
theorem lj_b_or (x y : Int32) (i : Nat) : lj_bt (x ||| y) i = (lj_bt x i || lj_bt y i) := by unfold lj_bt; rw [Int32.toBitVec_or, BitVec.getLsbD_or]
theorem lj_b_and (x y : Int32) (i : Nat) : lj_bt (x &&& y) i = (lj_bt x i && lj_bt y i) := by unfold lj_bt; rw [Int32.toBitVec_and, BitVec.getLsbD_and]
theorem lj_b_xor (x y : Int32) (i : Nat) : lj_bt (x ^^^ y) i = (lj_bt x i ^^ lj_bt y i) := by unfold lj_bt; rw [Int32.toBitVec_xor, BitVec.getLsbD_xor]
theorem lj_b_m1 : ∀ i, i < 32 → lj_bt (-1) i = true := by decide +kernel
theorem lj_b_0 (i : Nat) : lj_bt 0 i = false := BitVec.getLsbD_zero
theorem lj_b_one : ∀ p, p < 11 → ∀ q, q < 11 → lj_bt ((1 : Int32) <<< (nI p &&& 31)) q = decide (q = p) := by decide +kernel
theorem lj_s_l : ∀ n, n < 32 → ((nI n &&& 31).toBitVec.smod 32).toNat = n := by decide +kernel
theorem lj_test (x : Int32) {n : Nat} (hn : n < 32) : (x >>> (nI n &&& 31)) &&& 1 = 0 ↔ lj_bt x n = false := by
  rw [← Int32.toBitVec_inj, Int32.toBitVec_and, Int32.toBitVec_shiftRight]
  show (x.toBitVec.sshiftRight ((nI n &&& 31).toBitVec.smod 32).toNat) &&& 1#32 = 0#32 ↔ x.toBitVec.getLsbD n = false
  rw [lj_s_l n hn, BitVec.and_one_eq_setWidth_ofBool_getLsbD, BitVec.getLsbD_sshiftRight]
  have e : (if n + 0 < 32 then x.toBitVec.getLsbD (n + 0) else x.toBitVec.msb) = x.toBitVec.getLsbD n := by rw [if_pos (by omega), Nat.add_zero]
  rw [e]
  cases x.toBitVec.getLsbD n
  · exact ⟨fun _ => rfl, fun _ => by decide⟩
  · exact ⟨fun z => absurd z (by decide), fun z => absurd z (by decide)⟩
theorem lj_set (x : Int32) {p q : Nat} (hp : p < 11) (hq : q < 11) : lj_bt (x ||| ((1 : Int32) <<< (nI p &&& 31))) q = true ↔ (lj_bt x q = true ∨ q = p) := by
  rw [lj_b_or, lj_b_one p hp q hq, Bool.or_eq_true, decide_eq_true_iff]
theorem lj_clr (x : Int32) {p q : Nat} (hp : p < 11) (hq : q < 11) : lj_bt (x &&& (((1 : Int32) <<< (nI p &&& 31)) ^^^ (-1))) q = true ↔ (lj_bt x q = true ∧ q ≠ p) := by
  rw [lj_b_and, lj_b_xor, lj_b_one p hp q hq, lj_b_m1 q (by omega), Bool.and_eq_true]
  by_cases h : q = p
  · simp [h]
  · simp [h]
/-! ===== giveUpLongest ===== -/
def lj_cand (adm : Int32) (a3 : Nat → Int32) (q : Nat) : Prop := lj_bt adm q = true ∧ a3 q = 0
def lj_best (adm : Int32) (a1 a3 : Nat → Int32) (i : Nat) (s : Int32) : Prop :=
  (s = -1 ∧ ∀ q, q < i → ¬ lj_cand adm a3 q) ∨ (∃ p, p < i ∧ s = nI p ∧ lj_cand adm a3 p ∧ ∀ q, q < i → lj_cand adm a3 q → a1 q ≤ a1 p)
theorem lj_best_skip {adm : Int32} {a1 a3 : Nat → Int32} {i : Nat} {s : Int32} (h : lj_best adm a1 a3 i s) (hi : ¬ lj_cand adm a3 i) : lj_best adm a1 a3 (i + 1) s := by
  rcases h with ⟨e, h⟩ | ⟨p, hp, e, hc, h⟩
  · exact Or.inl ⟨e, lt_s h hi⟩
  · exact Or.inr ⟨p, by omega, e, hc, lt_s h (fun z => absurd z hi)⟩
theorem lj_give {post : Int32 → St1 → Prop} {jc rd adm cnt tim : Int32} {a1 a2 a3 a4 : Nat → Int32}
    (H0 : (∀ q, q < 11 → ¬ lj_cand adm a3 q) → post 0 (jc, rd, adm, cnt, tim, a1, a2, a3, a4))
    (H1 : ∀ p, p < 11 → lj_cand adm a3 p → (∀ q, q < 11 → lj_cand adm a3 q → a1 q ≤ a1 p) → post 1 (jc, rd, adm &&& (((1 : Int32) <<< (nI p &&& 31)) ^^^ (-1)), cnt - 1, tim - a1 p, a1, a2, a3, a4)) :
    wpX_giveUpLongest post (jc, rd, adm, cnt, tim, a1, a2, a3, a4) := by
  show ∃ n, wX_giveUpLongest_4 post jc rd adm cnt tim a1 a2 a3 a4 n (-1) 0
  refine pk_loop (fun n i s => wX_giveUpLongest_4 post jc rd adm cnt tim a1 a2 a3 a4 n s (nI i)) (fun i s => lj_best adm a1 a3 i s) 11 0 (-1) (by omega) (Or.inl ⟨rfl, fun q hq => absurd hq (by omega)⟩) ?_ ?_
  · intro n s h
    refine pk_le 11 11 (fun _ => ?_) (fun z => absurd z (by omega))
    rcases h with ⟨e, h⟩ | ⟨p, hp, e, hc, h⟩
    · rw [e]
      exact br_f (by decide) (H0 h)
    · rw [e]
      refine br_t (nI_pos' (by omega)) (nm_e (nm_e ⟨pk_in p 11 hp, nm_e ?_⟩))
      rw [nI_clamp (by omega)]
      exact H1 p hp hc h
  · intro n i s hi h hw
    refine pk_le 11 i (fun z => absurd z (by omega)) (fun _ => ?_)
    refine br_c (fun z => nm_r (nI_1 i) (hw _ (lj_best_skip h (fun hc => ?_)))) (fun z => ⟨pk_in i 11 hi, ?_⟩)
    · have := (lj_test adm (show i < 32 by omega)).mp z
      rw [hc.1] at this
      exact absurd this (by decide)
    · have hb : lj_bt adm i = true := by
        rcases Bool.eq_false_or_eq_true (lj_bt adm i) with g | g
        · exact g
        · exact absurd ((lj_test adm (show i < 32 by omega)).mpr g) z
      rw [nI_clamp (show i < 2 ^ 31 by omega)]
      refine br_c (fun z3 => ?_) (fun z3 => nm_r (nI_1 i) (hw _ (lj_best_skip h (fun hc => z3 hc.2))))
      have hci : lj_cand adm a3 i := ⟨hb, z3⟩
      rcases h with ⟨e, h⟩ | ⟨p, hp, e, hc, h⟩
      · rw [e]
        refine br_t (by decide) (nm_r (nI_1 i) (hw _ (Or.inr ⟨i, by omega, rfl, hci, lt_s (fun q hq hq2 => absurd hq2 (h q hq)) (fun _ => Int32.le_refl _)⟩)))
      · rw [e]
        refine br_f (nI_pos (by omega)) ⟨pk_in i 11 hi, pk_in p 11 (by omega), ?_⟩
        rw [nI_clamp (show p < 2 ^ 31 by omega)]
        refine br_c (fun g => nm_r (nI_1 i) (hw _ (Or.inr ⟨p, by omega, rfl, hc, lt_s h (fun _ => g)⟩))) (fun g => nm_r (nI_1 i) (hw _ (Or.inr ⟨i, by omega, rfl, hci, lt_s (fun q hq hq2 => ?_) (fun _ => Int32.le_refl _)⟩)))
        exact Int32.le_trans (h q hq hq2) (Int32.le_of_lt (Int32.not_le.mp g))
end
section
/-! ===== the picture of the two loops that take the jobs up ===== -/
def lj_len (a1 : Nat → Int32) (p : Nat) : Nat := (a1 p).toNatClampNeg
def lj_jb (a1 a2 a3 : Nat → Int32) (p : Nat) : Nat × Nat × Bool := (lj_len a1 p, lj_len a2 p, decide (a3 p ≠ 0))
def lj_ok (a1 a2 : Nat → Int32) (p : Nat) : Prop := p < 11 ∧ (∃ l, l ≤ 50 ∧ a1 p = nI l) ∧ (∃ d, d ≤ 200 ∧ a2 p = nI d)
def lj_rep (a4 : Nat → Int32) (l : List Nat) : Prop := ∀ j p, l[j]? = some p → a4 j = nI p
theorem lj_len_of {a : Nat → Int32} {p b : Nat} (hb : b < 2 ^ 31) (h : ∃ l, l ≤ b ∧ a p = nI l) : lj_len a p ≤ b ∧ a p = nI (lj_len a p) := by
  obtain ⟨l, hl, e⟩ := h
  have e2 : lj_len a p = l := by
    unfold lj_len
    rw [e, nI_clamp (by omega)]
  rw [e2]
  exact ⟨hl, e⟩
theorem lj_len_le {n : Nat} {l : List Nat} (hn : l.Nodup) (h : ∀ p ∈ l, p < n) : l.length ≤ n := by
  have := List.Nodup.length_le_of_subset (l₂ := List.range n) hn (fun p hp => List.mem_range.mpr (h p hp))
  rwa [List.length_range] at this
/-- N: the jobs taken that aren't firm; pre: the jobs gone through -/
def lj_St (adm : Int32) (a1 a3 : Nat → Int32) (pre N : List Nat) (F K : Nat) (M : List Nat) : Prop :=
  N.Nodup ∧ (∀ p ∈ N, p ∈ pre ∧ a3 p = 0) ∧ (∀ q, q < 11 → (lj_bt adm q = true ↔ (q ∈ N ∨ (q ∈ pre ∧ a3 q ≠ 0)))) ∧ (N.map (lj_len a1)).Perm M ∧ lj_srt M ∧ K + M.length ≤ pre.length ∧ F ≤ 50 * K ∧ F + M.sum ≤ 50 * pre.length
theorem lj_St_0 (a1 a3 : Nat → Int32) : lj_St 0 a1 a3 [] [] 0 0 [] := by
  refine ⟨List.nodup_nil, fun p hp => absurd hp (by simp), fun q hq => ?_, List.Perm.refl _, List.Pairwise.nil, Nat.le_refl _, Nat.le_refl _, Nat.le_refl _⟩
  rw [lj_b_0]
  simp
theorem lj_pop {len : Nat → Nat} {N M : List Nat} (hP : (N.map len).Perm M) (hs : lj_srt M) {p : Nat} (hp : p ∈ N) (hm : ∀ q ∈ N, len q ≤ len p) :
    ∃ M1, M = M1 ++ [len p] ∧ ((N.erase p).map len).Perm M1 := by
  have h1 : len p ∈ M := hP.mem_iff.mp (List.mem_map_of_mem hp)
  rcases List.eq_nil_or_concat M with e | ⟨M1, m, e⟩
  · rw [e] at h1
    exact absurd h1 (by simp)
  · rw [List.concat_eq_append] at e
    have h2 : m ∈ M := by rw [e]; simp
    obtain ⟨q, hq, eq⟩ := List.mem_map.mp (hP.mem_iff.mpr h2)
    have h3 := hm q hq
    have h4 : len p ≤ m := by
      rw [e] at h1 hs
      rcases List.mem_append.mp h1 with z | z
      · exact (List.pairwise_append.mp hs).2.2 _ z m (by simp)
      · have : len p = m := by simpa using z
        omega
    have h5 : m = len p := by omega
    subst h5
    refine ⟨M1, e, ?_⟩
    have a : (N.map len).Perm (len p :: (N.erase p).map len) := (List.perm_cons_erase hp).map len
    have b : M.Perm (len p :: M1) := by
      rw [e]
      exact List.perm_append_singleton _ _
    exact ((a.symm.trans hP).trans b).cons_inv
theorem lj_St_pop {adm : Int32} {a1 a2 a3 : Nat → Int32} {pre N : List Nat} {F K : Nat} {M : List Nat} (hok : ∀ p ∈ pre, lj_ok a1 a2 p) (h : lj_St adm a1 a3 pre N F K M) {p : Nat} (hp : p < 11) (hc : lj_cand adm a3 p)
    (hm : ∀ q, q < 11 → lj_cand adm a3 q → a1 q ≤ a1 p) :
    ∃ M1 N1, M = M1 ++ [lj_len a1 p] ∧ a1 p = nI (lj_len a1 p) ∧ lj_St (adm &&& (((1 : Int32) <<< (nI p &&& 31)) ^^^ (-1))) a1 a3 pre N1 F K M1 := by
  obtain ⟨s1, s2, s3, s4, s5, s6, s7, s8⟩ := h
  have hpN : p ∈ N := by
    rcases (s3 p hp).mp hc.1 with z | z
    · exact z
    · exact absurd hc.2 z.2
  have L : ∀ q ∈ N, lj_len a1 q ≤ 50 ∧ a1 q = nI (lj_len a1 q) := fun q hq => lj_len_of (by omega) (hok q (s2 q hq).1).2.1
  have hmN : ∀ q ∈ N, lj_len a1 q ≤ lj_len a1 p := by
    intro q hq
    have hq11 := (hok q (s2 q hq).1).1
    have := hm q hq11 ⟨(s3 q hq11).mpr (Or.inl hq), (s2 q hq).2⟩
    have lq := L q hq
    have lp := L p hpN
    rw [lq.2, lp.2] at this
    exact (nI_leI (by omega) (by omega)).mp this
  obtain ⟨M1, e, hP⟩ := lj_pop s4 s5 hpN hmN
  refine ⟨M1, N.erase p, e, (L p hpN).2, s1.erase p, fun q hq => s2 q (List.mem_of_mem_erase hq), fun q hq => ?_, hP, ?_, ?_, s7, ?_⟩
  · rw [lj_clr adm hp hq, s3 q hq, s1.mem_erase_iff]
    constructor
    · intro ⟨z, ne⟩
      rcases z with z | z
      · exact Or.inl ⟨ne, z⟩
      · exact Or.inr z
    · intro z
      rcases z with z | z
      · exact ⟨Or.inl z.2, z.1⟩
      · exact ⟨Or.inr z, fun eq => z.2 (eq ▸ hc.2)⟩
  · rw [e] at s5
    exact (List.pairwise_append.mp s5).1
  · rw [e, List.length_append] at s6
    omega
  · rw [e, List.sum_append_nat] at s8
    omega
theorem lj_St_add {adm : Int32} {a1 a2 a3 : Nat → Int32} {pre N : List Nat} {F K : Nat} {M : List Nat} {i : Nat} (hok : ∀ p ∈ pre, lj_ok a1 a2 p) (h : lj_St adm a1 a3 pre N F K M) (hi : lj_ok a1 a2 i) (hn : i ∉ pre) :
    ∃ N1, lj_St (adm ||| ((1 : Int32) <<< (nI i &&& 31))) a1 a3 (pre ++ [i]) N1 (lj_F (decide (a3 i ≠ 0)) F (lj_len a1 i)) (lj_K (decide (a3 i ≠ 0)) K) (lj_M (decide (a3 i ≠ 0)) (lj_len a1 i) M) := by
  obtain ⟨s1, s2, s3, s4, s5, s6, s7, s8⟩ := h
  have L := (lj_len_of (by omega) hi.2.1).1
  by_cases z : a3 i = 0
  · rw [decide_eq_false (show ¬ a3 i ≠ 0 from fun g => g z)]
    refine ⟨i :: N, List.nodup_cons.mpr ⟨fun g => hn (s2 i g).1, s1⟩, fun p hp => ?_, fun q hq => ?_, ?_, lj_ins_srt _ s5, ?_, s7, ?_⟩
    · rcases List.mem_cons.mp hp with e | e
      · rw [e]
        exact ⟨by simp, z⟩
      · exact ⟨List.mem_append_left _ (s2 p e).1, (s2 p e).2⟩
    · rw [lj_set adm hi.1 hq, s3 q hq, List.mem_cons, List.mem_append, List.mem_singleton]
      constructor
      · intro g
        rcases g with (g | g) | g
        · exact Or.inl (Or.inr g)
        · exact Or.inr ⟨Or.inl g.1, g.2⟩
        · exact Or.inl (Or.inl g)
      · intro g
        rcases g with (g | g) | ⟨g | g, g2⟩
        · exact Or.inr g
        · exact Or.inl (Or.inl g)
        · exact Or.inl (Or.inr ⟨g, g2⟩)
        · exact Or.inr g
    · rw [List.map_cons]
      exact (List.Perm.cons _ s4).trans (lj_ins_perm _ _).symm
    · show K + (lj_ins _ M).length ≤ _
      rw [lj_ins_len, List.length_append, List.length_singleton]
      omega
    · show F + (lj_ins _ M).sum ≤ _
      rw [lj_ins_sum, List.length_append, List.length_singleton]
      omega
  · rw [decide_eq_true z]
    refine ⟨N, s1, fun p hp => ⟨List.mem_append_left _ (s2 p hp).1, (s2 p hp).2⟩, fun q hq => ?_, s4, s5, ?_, ?_, ?_⟩
    · rw [lj_set adm hi.1 hq, s3 q hq, List.mem_append, List.mem_singleton]
      constructor
      · intro g
        rcases g with (g | g) | g
        · exact Or.inl g
        · exact Or.inr ⟨Or.inl g.1, g.2⟩
        · exact Or.inr ⟨Or.inr g, by rw [g]; exact z⟩
      · intro g
        rcases g with g | ⟨g | g, g2⟩
        · exact Or.inl (Or.inl g)
        · exact Or.inl (Or.inr ⟨g, g2⟩)
        · exact Or.inr g
    · show K + 1 + M.length ≤ _
      rw [List.length_append, List.length_singleton]
      omega
    · show F + lj_len a1 i ≤ 50 * (K + 1)
      omega
    · show F + lj_len a1 i + M.sum ≤ _
      rw [List.length_append, List.length_singleton]
      omega
/-! the inner loop: the longest are given up until the job is in time -/
theorem lj_ad71 {post : Int32 → St1 → Prop} {J : Int32 → Int32 → Int32 → Int32 → Int32 → Int32 → (Nat → Int32) → (Nat → Int32) → (Nat → Int32) → (Nat → Int32) → Prop} {jc rd : Int32} {a1 a2 a3 a4 : Nat → Int32} {t i : Nat} {pre : List Nat} {F K : Nat} {M0 : List Nat}
    (hok : ∀ p ∈ pre, lj_ok a1 a2 p) (hl : pre.length ≤ 11) (hi : i ∈ pre)
    (H0 : ¬ F ≤ lj_len a2 i → ∀ adm cnt tim, post 0 (jc, rd, adm, cnt, tim, a1, a2, a3, a4))
    (HJ : F ≤ lj_len a2 i → ∀ adm N, lj_St adm a1 a3 pre N F K (lj_cut (lj_len a2 i - F) M0) → J (nI (t + 1)) jc rd adm (nI (K + (lj_cut (lj_len a2 i - F) M0).length)) (nI (F + (lj_cut (lj_len a2 i - F) M0).sum)) a1 a2 a3 a4) :
    ∀ n k adm N M, k ≤ 11 → 11 - k < n → lj_St adm a1 a3 pre N F K M → k + K + M.length ≤ 11 → (F ≤ lj_len a2 i → lj_cut (lj_len a2 i - F) M = lj_cut (lj_len a2 i - F) M0) →
      wX_admit_71 post J (nI t) (nI i) n (nI k) jc rd adm (nI (K + M.length)) (nI (F + M.sum)) a1 a2 a3 a4 := by
  have hi11 := (hok i hi).1
  have D := lj_len_of (by omega) (hok i hi).2.2
  intro n
  induction n with
  | zero => intro k adm N M hk hn; exact absurd hn (by omega)
  | succ n ih =>
    intro k adm N M hk hn hS hb hc
    have s6 := hS.2.2.2.2.2.1
    have s7 := hS.2.2.2.2.2.2.1
    have s8 := hS.2.2.2.2.2.2.2
    have fin : lj_cut (lj_len a2 i - F) M = M → F ≤ lj_len a2 i → J (nI (t + 1)) jc rd adm (nI (K + M.length)) (nI (F + M.sum)) a1 a2 a3 a4 := by
      intro e hF
      have e' : lj_cut (lj_len a2 i - F) M0 = M := by rw [← hc hF, e]
      rw [e'] at HJ
      exact HJ hF adm N hS
    refine pk_le 11 k (fun z => nm_r (nI_1 t) ?_) (fun z => ⟨pk_in i 11 hi11, ?_⟩)
    · have e : M = [] := List.eq_nil_of_length_eq_zero (by omega)
      exact fin (by rw [e]; rfl) (by omega)
    · rw [nI_clamp (show i < 2 ^ 31 by omega)]
      refine pk_le (F + M.sum) (lj_len a2 i) (fun z2 => nm_r (nI_1 t) (fin (lj_cut_all (by omega)) (by omega))) (fun z2 => ?_) (hy := D.2)
      refine lj_give (fun hno => ?_) (fun p hp hcd hmx => ?_)
      · have eN : N = [] := by
          cases hN : N with
          | nil => rfl
          | cons p N' =>
            have hp : p ∈ N := by rw [hN]; simp
            have hp2 := hS.2.1 p hp
            exact absurd ⟨(hS.2.2.1 p (hok p hp2.1).1).mpr (Or.inl hp), hp2.2⟩ (hno p (hok p hp2.1).1)
        have eM : M = [] := by
          have := hS.2.2.2.1
          rw [eN] at this
          exact List.Perm.nil_eq this |>.symm
        refine br_t rfl (H0 ?_ _ _ _)
        rw [eM] at z2
        have z3 : lj_len a2 i < F + 0 := z2
        omega
      · obtain ⟨M1, N1, e, ea, hS1⟩ := lj_St_pop hok hS hp hcd hmx
        refine br_f (by decide) (nm_r (nI_1 k) ?_)
        have el : M.length = M1.length + 1 := by rw [e, List.length_append, List.length_singleton]
        have es : M.sum = M1.sum + lj_len a1 p := by rw [e, List.sum_append_nat]; simp
        have e1 : nI (K + M.length) - 1 = nI (K + M1.length) := by
          rw [el]
          exact nI_pred (K + M1.length)
        have e2 : nI (F + M.sum) - a1 p = nI (F + M1.sum) := by
          rw [ea, pk_sub (by omega), es]
          congr 1
          omega
        rw [e1, e2]
        refine ih (k + 1) _ N1 M1 (by omega) (by omega) hS1 (by omega) (fun hF => ?_)
        rw [← hc hF, e]
        refine (lj_cut_last ?_).symm
        rw [← e]
        omega
/-! the outer loop, by the jobs that are still to come -/
theorem lj_ad17 {post : Int32 → St1 → Prop} {jc : Int32} {a1 a2 a3 a4 : Nat → Int32} {rk : List Nat} {ans : Option Nat}
    (hok : ∀ p ∈ rk, lj_ok a1 a2 p) (hnd : rk.Nodup) (hl : rk.length ≤ 11) (hr : lj_rep a4 rk)
    (H0 : ans = none → ∀ adm cnt tim, post 0 (jc, nI rk.length, adm, cnt, tim, a1, a2, a3, a4))
    (H1 : ∀ c, ans = some c → c ≤ 11 → ∀ adm tim, post 1 (jc, nI rk.length, adm, nI c, tim, a1, a2, a3, a4)) :
    ∀ suf pre adm N F K M, rk = pre ++ suf → lj_St adm a1 a3 pre N F K M → lj_run F K M (suf.map (lj_jb a1 a2 a3)) = ans →
      wX_admit_17 post (suf.length + 1) (nI pre.length) jc (nI rk.length) adm (nI (K + M.length)) (nI (F + M.sum)) a1 a2 a3 a4 := by
  intro suf
  induction suf with
  | nil =>
    intro pre adm N F K M e hS hrun
    have el : rk.length = pre.length := by rw [e, List.append_nil]
    have s6 := hS.2.2.2.2.2.1
    exact pk_le rk.length pre.length (fun _ => H1 (K + M.length) hrun.symm (by omega) adm _) (fun z => absurd z (by omega))
  | cons i t ih =>
    intro pre adm N F K M e hS hrun
    have el : rk.length = pre.length + (t.length + 1) := by rw [e, List.length_append, List.length_cons]
    have him : i ∈ rk := by rw [e]; simp
    have hi := hok i him
    have hi11 := hi.1
    have hokp : ∀ p ∈ pre, lj_ok a1 a2 p := fun p hp => hok p (by rw [e]; exact List.mem_append_left _ hp)
    have hnp : i ∉ pre := by
      intro g
      rw [e] at hnd
      exact (List.nodup_append.mp hnd).2.2 i g i (by simp) rfl
    have e4 : a4 (nI pre.length).toNatClampNeg = nI i := by
      rw [nI_clamp (by omega)]
      exact hr pre.length i (by rw [e]; simp)
    have A := lj_len_of (by omega) hi.2.1
    have e7 : nI (F + M.sum) + a1 (nI i).toNatClampNeg = nI (F + M.sum + lj_len a1 i) := by
      rw [nI_clamp (by omega)]
      conv => lhs; rw [A.2]
      rw [nI_add]
    obtain ⟨N1, hS1⟩ := lj_St_add hokp hS hi hnp
    have eK : K + M.length + 1 = lj_K (decide (a3 i ≠ 0)) K + (lj_M (decide (a3 i ≠ 0)) (lj_len a1 i) M).length := by
      cases decide (a3 i ≠ 0) with
      | true =>
        show _ = K + 1 + M.length
        omega
      | false =>
        show _ = K + (lj_ins _ M).length
        rw [lj_ins_len]
        omega
    have eF : F + M.sum + lj_len a1 i = lj_F (decide (a3 i ≠ 0)) F (lj_len a1 i) + (lj_M (decide (a3 i ≠ 0)) (lj_len a1 i) M).sum := by
      cases decide (a3 i ≠ 0) with
      | true =>
        show _ = F + lj_len a1 i + M.sum
        omega
      | false =>
        show _ = F + (lj_ins _ M).sum
        rw [lj_ins_sum]
        omega
    refine pk_le rk.length pre.length (fun z => absurd z (by omega)) (fun _ => ⟨pk_in pre.length 11 (by omega), nm_r e4 (nm_e (nm_r (nI_1 _) ⟨pk_in i 11 hi11, nm_r e7 ⟨12, ?_⟩⟩))⟩)
    rw [eK, eF]
    have hrun2 : (if lj_F (decide (a3 i ≠ 0)) F (lj_len a1 i) ≤ lj_len a2 i then lj_run (lj_F (decide (a3 i ≠ 0)) F (lj_len a1 i)) (lj_K (decide (a3 i ≠ 0)) K) (lj_cut (lj_len a2 i - lj_F (decide (a3 i ≠ 0)) F (lj_len a1 i)) (lj_M (decide (a3 i ≠ 0)) (lj_len a1 i) M)) (t.map (lj_jb a1 a2 a3)) else none) = ans := hrun
    have s6 := hS1.2.2.2.2.2.1
    rw [List.length_append, List.length_singleton] at s6
    refine lj_ad71 (pre := pre ++ [i]) (M0 := lj_M (decide (a3 i ≠ 0)) (lj_len a1 i) M) ?_ ?_ ?_ ?_ ?_ 12 0 _ N1 _ (by omega) (by omega) hS1 (by omega) (fun _ => rfl)
    · intro p hp
      rcases List.mem_append.mp hp with z | z
      · exact hokp p z
      · have : p = i := by simpa using z
        rw [this]
        exact hi
    · rw [List.length_append, List.length_singleton]
      omega
    · simp
    · intro hF adm' cnt' tim'
      rw [if_neg hF] at hrun2
      exact H0 hrun2.symm adm' cnt' tim'
    · intro hF adm' N' hS'
      rw [if_pos hF] at hrun2
      have := ih (pre ++ [i]) adm' N' _ _ _ (by rw [e, List.append_assoc]; rfl) hS' hrun2
      rw [List.length_append] at this
      exact this
theorem lj_adm {post : Int32 → St1 → Prop} {jc rd adm cnt tim : Int32} {a1 a2 a3 a4 : Nat → Int32} {rk : List Nat}
    (hrd : rd = nI rk.length) (hok : ∀ p ∈ rk, lj_ok a1 a2 p) (hnd : rk.Nodup) (hr : lj_rep a4 rk)
    (H0 : lj_run 0 0 [] (rk.map (lj_jb a1 a2 a3)) = none → ∀ adm cnt tim, post 0 (jc, rd, adm, cnt, tim, a1, a2, a3, a4))
    (H1 : ∀ c, lj_run 0 0 [] (rk.map (lj_jb a1 a2 a3)) = some c → c ≤ 11 → ∀ adm tim, post 1 (jc, rd, adm, nI c, tim, a1, a2, a3, a4)) :
    wpX_admit post (jc, rd, adm, cnt, tim, a1, a2, a3, a4) := by
  subst hrd
  exact ⟨rk.length + 1, lj_ad17 hok hnd (lj_len_le hnd (fun p hp => (hok p hp).1)) hr H0 H1 rk [] 0 [] 0 0 [] rfl (lj_St_0 a1 a3) rfl⟩
theorem lj_most {post : Int32 → St1 → Prop} {jc rd adm cnt tim : Int32} {a1 a2 a3 a4 : Nat → Int32} {rk : List Nat}
    (hrd : rd = nI rk.length) (hok : ∀ p ∈ rk, lj_ok a1 a2 p) (hnd : rk.Nodup) (hr : lj_rep a4 rk)
    (H0 : lj_run 0 0 [] (rk.map (lj_jb a1 a2 a3)) = none → ∀ adm cnt tim, post (-3) (jc, rd, adm, cnt, tim, a1, a2, a3, a4))
    (H1 : ∀ c, lj_run 0 0 [] (rk.map (lj_jb a1 a2 a3)) = some c → c ≤ 11 → ∀ adm tim, post (nI c) (jc, rd, adm, nI c, tim, a1, a2, a3, a4)) :
    wpX_mostInTime post (jc, rd, adm, cnt, tim, a1, a2, a3, a4) := by
  unfold wpX_mostInTime
  refine lj_adm hrd hok hnd hr (fun h adm cnt tim => ?_) (fun c h hc adm tim => ?_)
  · exact br_t rfl (H0 h adm cnt tim)
  · exact br_f (by decide) (H1 c h hc adm tim)
end
section
/-! ===== the ranks: an array that holds a list, with a hole while it is shifted ===== -/
/-- a holds u, then one place of no account, then v -/
def lj_hole (a : Nat → Int32) (u v : List Nat) : Prop := lj_rep a u ∧ ∀ j p, v[j]? = some p → a (u.length + 1 + j) = nI p
theorem lj_hole_of {a : Nat → Int32} {u v : List Nat} {i : Nat} (h : lj_rep a (u ++ i :: v)) : lj_hole a u v := by
  refine ⟨fun j p e => h j p ?_, fun j p e => h _ p ?_⟩
  · have hj : j < u.length := (List.getElem?_eq_some_iff.mp e).1
    rw [List.getElem?_append_left hj]
    exact e
  · rw [List.getElem?_append_right (by omega), show u.length + 1 + j - u.length = j + 1 by omega, List.getElem?_cons_succ]
    exact e
theorem lj_hole_nil {a : Nat → Int32} {u : List Nat} (h : lj_rep a u) : lj_hole a u [] := ⟨h, fun j p e => absurd e (by simp)⟩
theorem lj_rep_snoc {a : Nat → Int32} {u : List Nat} {q : Nat} (h : lj_rep a u) (hq : a u.length = nI q) : lj_rep a (u ++ [q]) := by
  intro j p e
  rcases Nat.lt_or_ge j u.length with z | z
  · rw [List.getElem?_append_left z] at e
    exact h j p e
  · rw [List.getElem?_append_right z] at e
    rcases Nat.eq_zero_or_pos (j - u.length) with z2 | z2
    · rw [z2] at e
      have e' : q = p := Option.some.inj e
      have ej : j = u.length := by omega
      rw [ej, ← e']
      exact hq
    · rw [List.getElem?_eq_none (by rw [List.length_singleton]; omega)] at e
      exact absurd e (by simp)
theorem lj_rep_upd {a : Nat → Int32} {u : List Nat} {k : Nat} {x : Int32} (h : lj_rep a u) (hk : u.length ≤ k) : lj_rep (upd a k x) u := by
  intro j p e
  have hj : j < u.length := (List.getElem?_eq_some_iff.mp e).1
  rw [pk_un (by omega)]
  exact h j p e
/-- the shift to the left (withdraw) -/
theorem lj_hole_l {a : Nat → Int32} {u v : List Nat} {q : Nat} (h : lj_hole a u (q :: v)) : lj_hole (upd a u.length (nI q)) (u ++ [q]) v := by
  refine ⟨lj_rep_snoc (lj_rep_upd h.1 (Nat.le_refl _)) pk_us, fun j p e => ?_⟩
  rw [List.length_append, List.length_singleton, pk_un (by omega)]
  have := h.2 (j + 1) p (by rw [List.getElem?_cons_succ]; exact e)
  rw [show u.length + 1 + (j + 1) = u.length + 1 + 1 + j by omega] at this
  exact this
/-- the shift to the right (insert) -/
theorem lj_hole_r {a : Nat → Int32} {u v : List Nat} {q : Nat} (h : lj_hole a (u ++ [q]) v) : lj_hole (upd a (u.length + 1) (nI q)) u (q :: v) := by
  refine ⟨lj_rep_upd (fun j p e => h.1 j p ?_) (by omega), fun j p e => ?_⟩
  · have hj : j < u.length := (List.getElem?_eq_some_iff.mp e).1
    rw [List.getElem?_append_left hj]
    exact e
  · cases j with
    | zero =>
      have e' : q = p := Option.some.inj e
      rw [Nat.add_zero, pk_us, e']
    | succ j =>
      rw [List.getElem?_cons_succ] at e
      have := h.2 j p e
      rw [List.length_append, List.length_singleton] at this
      rw [pk_un (by omega), show u.length + 1 + (j + 1) = u.length + 1 + 1 + j by omega]
      exact this
theorem lj_hole_q {a : Nat → Int32} {u v : List Nat} {q : Nat} (h : lj_hole a (u ++ [q]) v) : a u.length = nI q := h.1 u.length q (by simp)
theorem lj_hole_v {a : Nat → Int32} {u v : List Nat} {q : Nat} (h : lj_hole a u (q :: v)) : a (u.length + 1) = nI q := h.2 0 q rfl
theorem lj_hole_fill {a : Nat → Int32} {u v : List Nat} {i : Nat} (h : lj_hole a u v) : lj_rep (upd a u.length (nI i)) (u ++ i :: v) := by
  intro j p e
  rcases Nat.lt_or_ge j u.length with z | z
  · rw [List.getElem?_append_left z] at e
    rw [pk_un (by omega)]
    exact h.1 j p e
  · rw [List.getElem?_append_right z] at e
    cases hj : j - u.length with
    | zero =>
      rw [hj] at e
      have e' : i = p := Option.some.inj e
      rw [show j = u.length by omega, pk_us, e']
    | succ k =>
      rw [hj, List.getElem?_cons_succ] at e
      rw [pk_un (by omega), show j = u.length + 1 + k by omega]
      exact h.2 k p e
theorem lj_byte : ∀ q, q < 128 → vp_nar .byte (nI q) = nI q := by decide +kernel
theorem lj_byte2 : ∀ q, q < 128 → (nI q).toInt8.toInt32 = nI q := by decide +kernel
/-- where insert splits the list: behind the last place whose deadline is at most d -/
def lj_spl (f : Nat → Nat) (d : Nat) (u v : List Nat) : Prop := (∀ q ∈ v, d < f q) ∧ (∀ w q, u = w ++ [q] → f q ≤ d)
theorem lj_spl_1 {f g : Nat → Nat} {d : Nat} {u v u' v' : List Nat} (hfg : ∀ q ∈ u' ++ v', g q = f q) (e : u ++ v = u' ++ v') (h : lj_spl f d u v) (h' : lj_spl g d u' v') : u = u' ∧ v = v' := by
  rcases List.append_eq_append_iff.mp e with ⟨c, e1, e2⟩ | ⟨c, e1, e2⟩
  · rcases List.eq_nil_or_concat c with z | ⟨w, q, z⟩
    · rw [z, List.append_nil] at e1
      rw [z, List.nil_append] at e2
      exact ⟨e1.symm, e2⟩
    · rw [List.concat_eq_append] at z
      have h1 := h.1 q (by rw [e2, z]; simp)
      have h2 := h'.2 (u ++ w) q (by rw [e1, z, List.append_assoc])
      have h3 := hfg q (by rw [e1, z]; simp)
      omega
  · rcases List.eq_nil_or_concat c with z | ⟨w, q, z⟩
    · rw [z, List.append_nil] at e1
      rw [z, List.nil_append] at e2
      exact ⟨e1, e2.symm⟩
    · rw [List.concat_eq_append] at z
      have h1 := h'.1 q (by rw [e2, z]; simp)
      have h2 := h.2 (u' ++ w) q (by rw [e1, z, List.append_assoc])
      have h3 := hfg q (by rw [e2, z]; simp)
      omega
theorem lj_ins5 {post : St1 → Prop} {jc adm cnt tim : Int32} {a1 a2 a3 : Nat → Int32} {rk : List Nat} {i : Nat} (hl : rk.length ≤ 10) (hi : i < 11) (hrk : ∀ q ∈ rk, q < 11) (hd : ∀ q ∈ rk, ∃ d, d ≤ 200 ∧ a2 q = nI d) (hdi : ∃ d, d ≤ 200 ∧ a2 i = nI d)
    (H : ∀ u v a4, rk = u ++ v → lj_spl (lj_len a2) (lj_len a2 i) u v → lj_rep a4 (u ++ i :: v) → post (jc, nI (rk.length + 1), adm, cnt, tim, a1, a2, a3, a4)) :
    ∀ n u v a4, rk = u ++ v → u.length < n → lj_hole a4 u v → (∀ q ∈ v, lj_len a2 i < lj_len a2 q) →
      wX_insert_5 post (nI i) jc (nI rk.length) adm cnt tim n (nI u.length) a1 a2 a3 a4 := by
  have DI := lj_len_of (by omega) hdi
  intro n
  induction n with
  | zero => intro u v a4 e hn; exact absurd hn (by omega)
  | succ n ih =>
    intro u v a4 e hn hh hv
    have el : rk.length = u.length + v.length := by rw [e, List.length_append]
    have fin : (∀ w q, u = w ++ [q] → lj_len a2 q ≤ lj_len a2 i) → wX_insert_51 post (nI i) (nI u.length) jc (nI rk.length) adm cnt tim a1 a2 a3 a4 := by
      intro hu
      refine ⟨pk_in u.length 11 (by omega), nm_e (nm_r (nI_1 _) ?_)⟩
      rw [nI_clamp (by omega), lj_byte2 i (by omega)]
      exact H u v _ e ⟨hv, hu⟩ (lj_hole_fill hh)
    rcases List.eq_nil_or_concat u with z | ⟨w, q, z⟩
    · refine br_t ?_ (fin (fun w q g => ?_))
      · rw [z]
        exact Int32.le_refl _
      · rw [z] at g
        exact absurd g (by simp)
    · rw [List.concat_eq_append] at z
      have eu : u.length = w.length + 1 := by rw [z, List.length_append, List.length_singleton]
      have hq : q ∈ rk := by rw [e, z]; simp
      have hq11 := hrk q hq
      have DQ := lj_len_of (by omega) (hd q hq)
      have em : nI u.length - 1 = nI w.length := by rw [eu]; exact nI_pred _
      have eq : a4 (nI u.length - 1).toNatClampNeg = nI q := by
        rw [em, nI_clamp (by omega)]
        rw [z] at hh
        exact lj_hole_q hh
      refine br_f (nI_nle (by omega) (by omega)) ?_
      rw [eq, em, nI_clamp (show q < 2 ^ 31 by omega), nI_clamp (show i < 2 ^ 31 by omega)]
      refine ⟨pk_in w.length 11 (by omega), pk_in q 11 hq11, pk_in i 11 hi, ?_⟩
      refine pk_le (lj_len a2 q) (lj_len a2 i) (fun g => fin (fun w' q' g' => ?_)) (fun g => ⟨pk_in w.length 11 (by omega), pk_in u.length 11 (by omega), nm_e (nm_r (e' := nI w.length) ?_ ?_)⟩) (hx := DQ.2) (hy := DI.2)
      · rw [z] at g'
        have : q = q' := (List.append_inj' g' rfl).2 |> List.singleton_inj.mp
        rw [← this]
        exact g
      · rw [eu]
        exact pk_m1 _
      · rw [nI_clamp (by omega), lj_byte q (by omega)]
        have t : wX_insert_5 post (nI i) jc (nI rk.length) adm cnt tim n (nI w.length) a1 a2 a3 (upd a4 (w.length + 1) (nI q)) := by
          refine ih w (q :: v) _ (by rw [e, z, List.append_assoc]; rfl) (by omega) ?_ (fun x hx => ?_)
          · rw [z] at hh
            exact lj_hole_r hh
          · rcases List.mem_cons.mp hx with g' | g'
            · rw [g']
              exact g
            · exact hv x g'
        rw [← eu] at t
        exact t
theorem lj_insert {post : St1 → Prop} {jc rd adm cnt tim : Int32} {a1 a2 a3 a4 : Nat → Int32} {rk : List Nat} {x : Int32} {i : Nat} (hrd : rd = nI rk.length) (hx : x = nI i) (hl : rk.length ≤ 10) (hi : i < 11) (hrk : ∀ q ∈ rk, q < 11) (hd : ∀ q ∈ rk, ∃ d, d ≤ 200 ∧ a2 q = nI d) (hdi : ∃ d, d ≤ 200 ∧ a2 i = nI d) (hr : lj_rep a4 rk)
    (H : ∀ u v a4, rk = u ++ v → lj_spl (lj_len a2) (lj_len a2 i) u v → lj_rep a4 (u ++ i :: v) → post (jc, nI (rk.length + 1), adm, cnt, tim, a1, a2, a3, a4)) :
    wpX_insert post (jc, rd, adm, cnt, tim, a1, a2, a3, a4) x := by
  subst hrd hx
  exact ⟨rk.length + 1, lj_ins5 hl hi hrk hd hdi H (rk.length + 1) rk [] a4 (List.append_nil rk).symm (by omega) (lj_hole_nil hr) (fun q hq => absurd hq (by simp))⟩
theorem lj_wd38 {post : St1 → Prop} {jc adm cnt tim : Int32} {a1 a2 a3 : Nat → Int32} {w : List Nat} (hl : w.length ≤ 10) (hrk : ∀ q ∈ w, q < 11)
    (H : ∀ a4, lj_rep a4 w → post (jc, nI w.length, adm, cnt, tim, a1, a2, a3, a4)) :
    ∀ v u a4, w = u ++ v → lj_hole a4 u v → wX_withdraw_38 post jc (nI w.length) adm cnt tim (v.length + 1) (nI u.length) a1 a2 a3 a4 := by
  intro v
  induction v with
  | nil =>
    intro u a4 e hh
    have el : w.length = u.length := by rw [e, List.append_nil]
    refine pk_le w.length u.length (fun _ => H a4 ?_) (fun z => absurd z (by omega))
    rw [e, List.append_nil]
    exact hh.1
  | cons q v ih =>
    intro u a4 e hh
    have el : w.length = u.length + (v.length + 1) := by rw [e, List.length_append, List.length_cons]
    have hq := hrk q (by rw [e]; simp)
    have e1 : a4 (nI u.length + 1).toNatClampNeg = nI q := by
      rw [nI_1, nI_clamp (by omega)]
      exact lj_hole_v hh
    refine pk_le w.length u.length (fun z => absurd z (by omega)) (fun _ => ⟨pk_in (u.length + 1) 11 (by omega) (nI_1 _), pk_in u.length 11 (by omega), nm_e (nm_r (nI_1 _) ?_)⟩)
    rw [e1, nI_clamp (by omega), lj_byte q (by omega)]
    have := ih (u ++ [q]) _ (by rw [e, List.append_assoc]; rfl) (lj_hole_l hh)
    rw [List.length_append] at this
    exact this
theorem lj_withdraw {post : St1 → Prop} {jc rd adm cnt tim : Int32} {a1 a2 a3 a4 : Nat → Int32} {u v : List Nat} {x : Int32} {i : Nat} (hrd : rd = nI (u.length + v.length + 1)) (hx : x = nI i) (hl : u.length + v.length ≤ 10) (hi : i < 11) (hrk : ∀ q ∈ u ++ v, q < 11) (hn : i ∉ u) (hr : lj_rep a4 (u ++ i :: v))
    (H : ∀ a4, lj_rep a4 (u ++ v) → post (jc, nI (u.length + v.length), adm, cnt, tim, a1, a2, a3, a4)) :
    wpX_withdraw post (jc, rd, adm, cnt, tim, a1, a2, a3, a4) x := by
  subst hrd hx
  have er : nI (u.length + v.length + 1) - 1 = nI (u.length + v.length) := nI_pred _
  have el : (u ++ v).length = u.length + v.length := List.length_append
  have go : ∃ n, wX_withdraw_38 post jc (nI (u.length + v.length)) adm cnt tim n (nI u.length) a1 a2 a3 a4 := by
    refine ⟨v.length + 1, ?_⟩
    rw [← el]
    exact lj_wd38 (by omega) hrk (fun a h => by rw [el]; exact H a h) v u a4 rfl (lj_hole_of hr)
  show ∃ n, wX_withdraw_2 post (nI i) jc (nI (u.length + v.length + 1)) adm cnt tim a1 a2 a3 a4 n 0
  refine pk_loop (σ := Unit) (fun n k _ => wX_withdraw_2 post (nI i) jc (nI (u.length + v.length + 1)) adm cnt tim a1 a2 a3 a4 n (nI k)) (fun _ _ => True) u.length 0 () (by omega) trivial ?_ ?_
  · intro n _ _
    refine pk_le (u.length + v.length) u.length (fun _ => nm_r er go) (fun _ => ⟨pk_in u.length 11 (by omega), br_t ?_ (nm_r er go)⟩) (hx := er)
    rw [nI_clamp (by omega)]
    exact hr u.length i (by simp)
  · intro n k _ hk _ hw
    refine pk_le (u.length + v.length) k (fun z => absurd z (by omega)) (fun _ => ⟨pk_in k 11 (by omega), br_f ?_ (nm_r (nI_1 k) (hw () trivial))⟩) (hx := er)
    have e : (u ++ i :: v)[k]? = some u[k] := by
      rw [List.getElem?_append_left hk, List.getElem?_eq_getElem hk]
    rw [nI_clamp (by omega), hr k _ e]
    intro g
    have hm : u[k] ∈ u := List.getElem_mem hk
    have h11 := hrk u[k] (List.mem_append_left _ hm)
    have := (nI_eq (by omega) (by omega)).mp g
    rw [this] at hm
    exact hn hm
end
section
/-! ===== the invariant of an object, and the methods that change the jobs ===== -/
def lj_Inv (jc rd : Int32) (a1 a3 a4 : Nat → Int32) (rk : List Nat) : Prop :=
  jc = nI rk.length ∧ rd = nI rk.length ∧ lj_rep a4 rk ∧ rk.Nodup ∧ (∀ p, p < 10 → a1 p ≠ 0 → p ∈ rk) ∧ (∀ p ∈ rk, p < 10 ∧ a1 p ≠ 0 ∧ ∃ l, l ≤ 50 ∧ a1 p = nI l) ∧ (∀ p, p < 11 → a3 p = 0 ∨ a3 p = 1)
def lj_Dl (a2 : Nat → Int32) (rk : List Nat) : Prop := ∀ p ∈ rk, ∃ d, d ≤ 200 ∧ a2 p = nI d
theorem lj_Inv_ok {jc rd : Int32} {a1 a2 a3 a4 : Nat → Int32} {rk : List Nat} (h : lj_Inv jc rd a1 a3 a4 rk) (hD : lj_Dl a2 rk) : ∀ p ∈ rk, lj_ok a1 a2 p := by
  obtain ⟨_, _, _, _, _, h6, _⟩ := h
  intro p hp
  have := (h6 p hp).1
  exact ⟨by omega, (h6 p hp).2.2, hD p hp⟩
theorem lj_Inv_len {jc rd : Int32} {a1 a3 a4 : Nat → Int32} {rk : List Nat} (h : lj_Inv jc rd a1 a3 a4 rk) : rk.length ≤ 10 := by
  obtain ⟨_, _, _, h4, _, h6, _⟩ := h
  exact lj_len_le h4 (fun p hp => (h6 p hp).1)
theorem lj_Inv_0 : lj_Inv 0 0 (fun _ => 0) (fun _ => 0) (fun _ => 0) [] :=
  ⟨rfl, rfl, fun j p e => absurd e (by simp), List.nodup_nil, fun p _ h => absurd rfl h, fun p hp => absurd hp (by simp), fun p _ => Or.inl rfl⟩
theorem lj_mid_nodup {u v : List Nat} {i : Nat} (h : (u ++ v).Nodup) (hi : i ∉ u ++ v) : (u ++ i :: v).Nodup :=
  (List.perm_middle.nodup_iff).mpr (List.nodup_cons.mpr ⟨hi, h⟩)
theorem lj_mid_mem {u v : List Nat} {i q : Nat} : q ∈ u ++ i :: v ↔ q = i ∨ q ∈ u ++ v := by
  rw [List.perm_middle.mem_iff, List.mem_cons]
theorem lj_mid_un {u v : List Nat} {i : Nat} (h : (u ++ i :: v).Nodup) : (u ++ v).Nodup ∧ i ∉ u ++ v := by
  have := (List.perm_middle.nodup_iff).mp h
  exact ⟨(List.nodup_cons.mp this).2, (List.nodup_cons.mp this).1⟩
theorem lj_mid_len (u v : List Nat) (i : Nat) : (u ++ i :: v).length = (u ++ v).length + 1 := by
  rw [List.length_append, List.length_append, List.length_cons]
  omega
theorem lj_bool {z : Int32} (h : z = 0 ∨ z = 1) : vp_nar .boolean z = z := by
  rcases h with h | h
  · rw [h]
    rfl
  · rw [h]
    rfl
theorem lj_short : ∀ d, d < 256 → (nI d).toInt16.toInt32 = nI d := by decide +kernel
theorem lj_Inv_a3 {jc rd : Int32} {a1 a3 a4 : Nat → Int32} {rk : List Nat} {p : Nat} {z : Int32} (h : lj_Inv jc rd a1 a3 a4 rk) (hz : z = 0 ∨ z = 1) : lj_Inv jc rd a1 (upd a3 p z) a4 rk := by
  obtain ⟨h1, h2, h3, h4, h5, h6, h7⟩ := h
  refine ⟨h1, h2, h3, h4, h5, h6, fun q hq => ?_⟩
  by_cases e : q = p
  · rw [e, pk_us]
    exact hz
  · rw [pk_un e]
    exact h7 q hq
theorem lj_isJob {post : Int32 → Prop} {jc rd adm cnt tim : Int32} {a1 a2 a3 a4 : Nat → Int32} {l d : Nat} (h1 : 1 ≤ l) (h2 : l ≤ 50) (h3 : d ≤ 200) (H : post 1) : wpX_isJob post (jc, rd, adm, cnt, tim, a1, a2, a3, a4) (nI l) (nI d) :=
  pk_lt l 1 (fun z => absurd z (by omega)) (fun _ => pk_lt 50 l (fun z => absurd z (by omega)) (fun _ => br_f (nI_pos (by omega)) (pk_lt 200 d (fun z => absurd z (by omega)) (fun _ => H))))
theorem lj_isPlace {post : Int32 → Prop} {jc rd adm cnt tim : Int32} {a1 a2 a3 a4 : Nat → Int32} {p : Nat} (hp : p < 10) (H0 : a1 p = 0 → post 0) (H1 : a1 p ≠ 0 → post 1) : wpX_isPlace post (jc, rd, adm, cnt, tim, a1, a2, a3, a4) (nI p) :=
  br_f (nI_pos (by omega)) (pk_lt 9 p (fun z => absurd z (by omega)) (fun _ => ⟨pk_in p 11 (by omega), by
    rw [nI_clamp (show p < 2 ^ 31 by omega)]
    exact br_c H0 H1⟩))
theorem lj_mkFirm {post : Int32 → St1 → Prop} {jc rd adm cnt tim : Int32} {a1 a2 a3 a4 : Nat → Int32} {x z : Int32} {p : Nat} (hx : x = nI p) (hp : p < 10) (hz : z = 0 ∨ z = 1)
    (H0 : a1 p = 0 → post 0 (jc, rd, adm, cnt, tim, a1, a2, a3, a4)) (H1 : a1 p ≠ 0 → post 1 (jc, rd, adm, cnt, tim, a1, a2, upd a3 p z, a4)) :
    wpX_makeFirm post (jc, rd, adm, cnt, tim, a1, a2, a3, a4) x z := by
  subst hx
  unfold wpX_makeFirm
  refine lj_isPlace hp (fun g => br_t rfl (H0 g)) (fun g => br_f (by decide) ⟨pk_in p 11 (by omega), nm_e ?_⟩)
  rw [nI_clamp (show p < 2 ^ 31 by omega), lj_bool hz]
  exact H1 g
/-! put -/
theorem lj_len_un {a : Nat → Int32} {i q : Nat} {x : Int32} (h : q ≠ i) : lj_len (upd a i x) q = lj_len a q := by
  unfold lj_len
  rw [pk_un h]
theorem lj_len_us {a : Nat → Int32} {i d : Nat} (h : d < 2 ^ 31) : lj_len (upd a i (nI d)) i = d := by
  unfold lj_len
  rw [pk_us, nI_clamp h]
theorem lj_spl_upd {a2 : Nat → Int32} {i d : Nat} {u v : List Nat} (hd : d < 2 ^ 31) (hi : i ∉ u ++ v) (h : lj_spl (lj_len (upd a2 i (nI d))) (lj_len (upd a2 i (nI d)) i) u v) : lj_spl (lj_len a2) d u v := by
  rw [lj_len_us hd] at h
  refine ⟨fun q hq => ?_, fun w q e => ?_⟩
  · have := h.1 q hq
    rwa [lj_len_un (fun g => hi (by rw [← g]; exact List.mem_append_right _ hq))] at this
  · have := h.2 w q e
    rwa [lj_len_un (fun g => hi (by rw [← g, e]; simp))] at this
theorem lj_Inv_put {jc rd : Int32} {a1 a3 a4 a4' : Nat → Int32} {rk u v : List Nat} {i l : Nat} {z : Int32} (h : lj_Inv jc rd a1 a3 a4 rk) (hi : i < 10) (hn : i ∉ rk) (h1 : 1 ≤ l) (h2 : l ≤ 50) (hz : z = 0 ∨ z = 1) (e : rk = u ++ v) (hr : lj_rep a4' (u ++ i :: v)) :
    lj_Inv (nI (rk.length + 1)) (nI (rk.length + 1)) (upd a1 i (nI l)) (upd a3 i z) a4' (u ++ i :: v) := by
  have hz3 := lj_Inv_a3 (p := i) h hz
  obtain ⟨_, _, _, h4, h5, h6, h7⟩ := hz3
  subst e
  refine ⟨by rw [lj_mid_len], by rw [lj_mid_len], hr, lj_mid_nodup h4 hn, fun p hp hp0 => ?_, fun p hp => ?_, h7⟩
  · by_cases g : p = i
    · rw [g]
      simp
    · rw [pk_un g] at hp0
      exact lj_mid_mem.mpr (Or.inr (h5 p hp hp0))
  · by_cases g : p = i
    · rw [g, pk_us]
      exact ⟨hi, nI_ne0 (by omega) (by omega), l, h2, rfl⟩
    · rw [pk_un g]
      rcases lj_mid_mem.mp hp with g' | g'
      · exact absurd g' g
      · exact h6 p g'
theorem lj_Dl_put {a2 : Nat → Int32} {rk u v : List Nat} {i d : Nat} (h : lj_Dl a2 rk) (hd : d ≤ 200) (e : rk = u ++ v) : lj_Dl (upd a2 i (nI d)) (u ++ i :: v) := by
  subst e
  intro p hp
  by_cases g : p = i
  · rw [g, pk_us]
    exact ⟨d, hd, rfl⟩
  · rw [pk_un g]
    rcases lj_mid_mem.mp hp with g' | g'
    · exact absurd g' g
    · exact h p g'
theorem lj_put26 {post : Int32 → St1 → Prop} {x y z : Int32} {jc rd adm cnt tim : Int32} {a1 a2 a3 a4 : Nat → Int32} {rk : List Nat} (hI : lj_Inv jc rd a1 a3 a4 rk) (hl : rk.length < 10)
    (H : ∀ i, i < 10 → i ∉ rk → wX_put_49 post x y z (nI i) jc rd adm cnt tim a1 a2 a3 a4) :
    ∀ n k, k ≤ 9 → 9 - k < n → (∀ j, j < k → a1 j ≠ 0) → wX_put_26 post x y z jc rd adm cnt tim a1 a2 a3 a4 n (nI k) := by
  obtain ⟨_, _, _, h4, h5, h6, h7⟩ := hI
  intro n
  induction n with
  | zero => intro k hk hn; exact absurd hn (by omega)
  | succ n ih =>
    intro k hk hn hj
    refine pk_le 9 k (fun g => H k (by omega) (fun hm => ?_)) (fun g => ⟨pk_in k 11 (by omega), ?_⟩)
    · have := List.Nodup.length_le_of_subset (l₁ := List.range 10) (l₂ := rk) List.nodup_range (fun p hp => ?_)
      · rw [List.length_range] at this
        omega
      · have hp10 := List.mem_range.mp hp
        rcases Nat.lt_or_ge p k with z | z
        · exact h5 p hp10 (hj p z)
        · have : p = k := by omega
          rw [this]
          exact hm
    · rw [nI_clamp (show k < 2 ^ 31 by omega)]
      refine br_c (fun g2 => H k (by omega) (fun hm => (h6 k hm).2.1 g2)) (fun g2 => nm_r (nI_1 k) (ih (k + 1) (by omega) (by omega) (lt_s hj g2)))
theorem lj_put {post : Int32 → St1 → Prop} {jc rd adm cnt tim : Int32} {a1 a2 a3 a4 : Nat → Int32} {rk : List Nat} {x y z : Int32} {l d : Nat} (hI : lj_Inv jc rd a1 a3 a4 rk) (hD : lj_Dl a2 rk) (hx : x = nI l) (hy : y = nI d) (h1 : 1 ≤ l) (h2 : l ≤ 50) (h3 : d ≤ 200) (hz : z = 0 ∨ z = 1)
    (H0 : post (-2) (jc, rd, adm, cnt, tim, a1, a2, a3, a4))
    (H1 : ∀ i u v a4' jc' rd', i < 10 → i ∉ rk → rk = u ++ v → lj_spl (lj_len a2) d u v → lj_Inv jc' rd' (upd a1 i (nI l)) (upd a3 i z) a4' (u ++ i :: v) → lj_Dl (upd a2 i (nI d)) (u ++ i :: v) → post (nI i) (jc', rd', adm, cnt, tim, upd a1 i (nI l), upd a2 i (nI d), upd a3 i z, a4')) :
    wpX_put post (jc, rd, adm, cnt, tim, a1, a2, a3, a4) x y z := by
  subst hx hy
  have hlen := lj_Inv_len hI
  have hjc := hI.1
  have hrd := hI.2.1
  refine pk_lt rk.length 10 (fun g => ?_) (fun _ => H0) (hx := hjc)
  refine lj_isJob h1 h2 h3 (br_f (by decide) ⟨10, ?_⟩)
  refine lj_put26 hI g (fun i hi hn => ?_) 10 0 (by omega) (by omega) (fun j hj => absurd hj (by omega))
  have ec : (nI i).toNatClampNeg = i := nI_clamp (by omega)
  unfold wX_put_49
  rw [ec, lj_byte2 l (by omega), lj_short d (by omega), lj_bool hz]
  refine ⟨pk_in i 11 (by omega), nm_e ⟨pk_in i 11 (by omega), nm_e ⟨pk_in i 11 (by omega), nm_e (nm_r (e' := nI (rk.length + 1)) (by rw [hjc]; exact nI_1 _) ?_)⟩⟩⟩
  refine lj_insert (rk := rk) (i := i) hrd rfl (by omega) (by omega) (fun q hq => ?_) (fun q hq => ?_) ⟨d, h3, pk_us⟩ hI.2.2.1 (fun u v a4' e hs hr => ?_)
  · have := (hI.2.2.2.2.2.1 q hq).1
    omega
  · rw [pk_un (fun g' => hn (by rw [← g']; exact hq))]
    exact hD q hq
  · exact H1 i u v a4' _ _ hi hn e (lj_spl_upd (by omega) (by rw [← e]; exact hn) hs) (lj_Inv_put hI hi hn h1 h2 hz e hr) (lj_Dl_put hD h3 e)
/-! drop -/
theorem lj_drop {post : Int32 → St1 → Prop} {jc rd adm cnt tim : Int32} {a1 a2 a3 a4 : Nat → Int32} {rk : List Nat} {x : Int32} {p : Nat} (hI : lj_Inv jc rd a1 a3 a4 rk) (hx : x = nI p) (hp : p < 10)
    (H0 : a1 p = 0 → post (-1) (jc, rd, adm, cnt, tim, a1, a2, a3, a4))
    (H1 : ∀ r jc' rd' a1' a4' rk', a1 p ≠ 0 → (∀ q ∈ rk', q ∈ rk ∧ q ≠ p) → lj_Inv jc' rd' a1' a3 a4' rk' → post r (jc', rd', adm, cnt, tim, a1', a2, a3, a4')) :
    wpX_drop post (jc, rd, adm, cnt, tim, a1, a2, a3, a4) x := by
  subst hx
  unfold wpX_drop
  refine lj_isPlace hp (fun g => br_t rfl (H0 g)) (fun g => br_f (by decide) ⟨pk_in p 11 (by omega), ?_⟩)
  rw [nI_clamp (show p < 2 ^ 31 by omega)]
  have hlen := lj_Inv_len hI
  obtain ⟨hjc, hrd, h3, h4, h5, h6, h7⟩ := hI
  obtain ⟨u, v, e⟩ := List.append_of_mem (h5 p hp g)
  subst e
  obtain ⟨n1, n2⟩ := lj_mid_un h4
  rw [lj_mid_len, List.length_append] at hlen hjc hrd
  refine nm_e (nm_r (e' := nI (u.length + v.length)) (by rw [hjc]; exact nI_pred _) ?_)
  refine lj_withdraw (u := u) (v := v) (i := p) hrd rfl (by omega) (by omega) (fun q hq => ?_) (fun g' => n2 (List.mem_append_left _ g')) h3 (fun a4' hr => ?_)
  · have := (h6 q (lj_mid_mem.mpr (Or.inr hq))).1
    omega
  · refine H1 _ _ _ _ a4' (u ++ v) g (fun q hq => ⟨lj_mid_mem.mpr (Or.inr hq), fun g' => n2 (by rw [← g']; exact hq)⟩) ⟨by rw [List.length_append], by rw [List.length_append], hr, n1, fun q hq hq0 => ?_, fun q hq => ?_, h7⟩
    · by_cases g' : q = p
      · rw [g', pk_us] at hq0
        exact absurd rfl hq0
      · rw [pk_un g'] at hq0
        rcases lj_mid_mem.mp (h5 q hq hq0) with g2 | g2
        · exact absurd g2 g'
        · exact g2
    · rw [pk_un (fun g' => n2 (by rw [← g']; exact hq))]
      exact h6 q (lj_mid_mem.mpr (Or.inr hq))
/-! elapse -/
theorem lj_neg : ∀ m, m < 201 → 0 < m → ¬ (0 : Int32) ≤ (-nI m).toInt16.toInt32 := by decide +kernel
theorem lj_sub_neg (d m : Nat) : nI d - nI (d + m) = -nI m := by
  rw [← nI_add]
  generalize nI d = a
  generalize nI m = b
  grind
theorem lj_el15 {post : Int32 → St1 → Prop} {adm cnt tim : Int32} {a3 : Nat → Int32} {t : Nat} (ht : t ≤ 200)
    (H : ∀ r jc rd a1 a2 a4 rk, lj_Inv jc rd a1 a3 a4 rk → lj_Dl a2 rk → post r (jc, rd, adm, cnt, tim, a1, a2, a3, a4)) :
    ∀ n k jc rd a1 a2 a4 rk, k ≤ 10 → 10 - k < n → lj_Inv jc rd a1 a3 a4 rk → lj_Dl a2 rk → wX_elapse_15 post (nI t) n (nI k) jc rd adm cnt tim a1 a2 a3 a4 := by
  intro n
  induction n with
  | zero => intro k jc rd a1 a2 a4 rk hk hn; exact absurd hn (by omega)
  | succ n ih =>
    intro k jc rd a1 a2 a4 rk hk hn hI hD
    refine pk_le 10 k (fun _ => H _ _ _ _ _ _ rk hI hD) (fun z => ⟨pk_in k 11 (by omega), ?_⟩)
    rw [nI_clamp (show k < 2 ^ 31 by omega)]
    refine br_c (fun g => nm_r (nI_1 k) (ih (k + 1) _ _ _ _ _ rk (by omega) (by omega) hI hD)) (fun g => ⟨pk_in k 11 (by omega), pk_in k 11 (by omega), nm_e ⟨pk_in k 11 (by omega), ?_⟩⟩)
    rw [pk_us]
    have hm : k ∈ rk := hI.2.2.2.2.1 k (by omega) g
    obtain ⟨d, hd, ed⟩ := hD k hm
    rw [ed]
    rcases Nat.lt_or_ge d t with z2 | z2
    · have e : nI d - nI t = -nI (t - d) := by
        have := lj_sub_neg d (t - d)
        rwa [show d + (t - d) = t by omega] at this
      rw [e]
      refine br_f (lj_neg (t - d) (by omega) (by omega)) ?_
      refine lj_drop hI rfl (by omega) (fun g' => absurd g' g) (fun r jc' rd' a1' a4' rk' _ hq hI' => nm_r (nI_1 k) (ih (k + 1) _ _ _ _ _ rk' (by omega) (by omega) hI' (fun q hq' => ?_)))
      rw [pk_un (hq q hq').2]
      exact hD q (hq q hq').1
    · rw [pk_sub z2, lj_short (d - t) (by omega)]
      refine br_t (nI_pos' (by omega)) (nm_r (nI_1 k) (ih (k + 1) _ _ _ _ _ rk (by omega) (by omega) hI (fun q hq => ?_)))
      by_cases g' : q = k
      · rw [g', pk_us]
        exact ⟨d - t, by omega, rfl⟩
      · rw [pk_un g']
        exact hD q hq
theorem lj_elapse {post : Int32 → St1 → Prop} {jc rd adm cnt tim : Int32} {a1 a2 a3 a4 : Nat → Int32} {rk : List Nat} {x : Int32} {t : Nat} (hI : lj_Inv jc rd a1 a3 a4 rk) (hD : lj_Dl a2 rk) (hx : x = nI t) (ht : t ≤ 200)
    (H : ∀ r jc rd a1 a2 a4 rk, lj_Inv jc rd a1 a3 a4 rk → lj_Dl a2 rk → post r (jc, rd, adm, cnt, tim, a1, a2, a3, a4)) :
    wpX_elapse post (jc, rd, adm, cnt, tim, a1, a2, a3, a4) x := by
  subst hx
  exact br_f (nI_pos (by omega)) (pk_le t 200 (fun _ => ⟨11, lj_el15 ht H 11 0 _ _ _ _ _ rk (by omega) (by omega) hI hD⟩) (fun z => absurd z (by omega)))
end
section
/-! ===== mostInTime, affordable, welcome over the invariant ===== -/
/-- what the rows of jobs answer -/
def lj_A (a1 a2 a3 : Nat → Int32) (rk : List Nat) : Option Nat := lj_run 0 0 [] (rk.map (lj_jb a1 a2 a3))
def lj_ans (r : Int32) (o : Option Nat) : Prop := (r = -3 ∧ o = none) ∨ ∃ c, r = nI c ∧ o = some c ∧ c ≤ 11
theorem lj_ans_some {r : Int32} {o : Option Nat} {c : Nat} (h : lj_ans r o) (e : o = some c) : r = nI c ∧ c ≤ 11 := by
  rcases h with ⟨_, z⟩ | ⟨c', e1, e2, h⟩
  · rw [z] at e
    exact absurd e (by simp)
  · rw [e2] at e
    have := Option.some.inj e
    rw [← this]
    exact ⟨e1, h⟩
theorem lj_mostI {post : Int32 → St1 → Prop} {jc rd adm cnt tim : Int32} {a1 a2 a3 a4 : Nat → Int32} {rk : List Nat} (hI : lj_Inv jc rd a1 a3 a4 rk) (hD : lj_Dl a2 rk)
    (H : ∀ r adm cnt tim, lj_ans r (lj_A a1 a2 a3 rk) → post r (jc, rd, adm, cnt, tim, a1, a2, a3, a4)) :
    wpX_mostInTime post (jc, rd, adm, cnt, tim, a1, a2, a3, a4) :=
  lj_most hI.2.1 (lj_Inv_ok hI hD) hI.2.2.2.1 hI.2.2.1 (fun h adm cnt tim => H _ adm cnt tim (Or.inl ⟨rfl, h⟩)) (fun c h hc adm tim => H _ adm _ tim (Or.inr ⟨c, rfl, h, hc⟩))
theorem lj_back {a3 : Nat → Int32} {p : Nat} (h : a3 p = 0 ∨ a3 p = 1) : upd (upd a3 p 1) p (vp_nar .boolean (a3 p)) = a3 := by
  rw [lj_bool h]
  funext q
  by_cases e : q = p
  · rw [e, pk_us]
  · rw [pk_un e, pk_un e]
theorem lj_afford {post : Int32 → St1 → Prop} {jc rd adm cnt tim : Int32} {a1 a2 a3 a4 : Nat → Int32} {rk : List Nat} {x : Int32} {p : Nat} (hI : lj_Inv jc rd a1 a3 a4 rk) (hD : lj_Dl a2 rk) (hx : x = nI p) (hp : p < 10)
    (H0 : ∀ adm cnt tim, post 0 (jc, rd, adm, cnt, tim, a1, a2, a3, a4))
    (H1 : ∀ c adm cnt tim, a1 p ≠ 0 → lj_A a1 a2 a3 rk = some c → lj_A a1 a2 (upd a3 p 1) rk = some c → post 1 (jc, rd, adm, cnt, tim, a1, a2, a3, a4)) :
    wpX_affordable post (jc, rd, adm, cnt, tim, a1, a2, a3, a4) x := by
  subst hx
  have ec : (nI p).toNatClampNeg = p := nI_clamp (by omega)
  have hb := lj_back (hI.2.2.2.2.2.2 p (by omega))
  have hI2 := lj_Inv_a3 (p := p) (z := 1) hI (Or.inr rfl)
  have F : ∀ z0 adm cnt tim, narrow .boolean (.int z0) = .int z0 → post z0 (jc, rd, adm, cnt, tim, a1, a2, a3, a4) → wX_affordable_56 post (nI p) (a3 p) z0 jc rd adm cnt tim a1 a2 (upd a3 p 1) a4 := by
    intro z0 adm cnt tim hn h
    unfold wX_affordable_56
    rw [ec]
    exact ⟨pk_in p 11 (by omega), nm_r hb ⟨hn, h⟩⟩
  unfold wpX_affordable
  refine lj_isPlace hp (fun g => br_t rfl (H0 _ _ _)) (fun g => br_f (by decide) ?_)
  refine lj_adm hI.2.1 (lj_Inv_ok hI hD) hI.2.2.2.1 hI.2.2.1 (fun _ adm cnt tim => br_t rfl (H0 adm cnt tim)) (fun c h hc adm tim => br_f (by decide) ⟨pk_in p 11 (by omega), nm_r (e' := a3 p) (by rw [ec]) ⟨pk_in p 11 (by omega), nm_r (e' := upd a3 p 1) (by rw [ec]) ?_⟩⟩)
  refine lj_adm hI2.2.1 (lj_Inv_ok hI2 hD) hI2.2.2.2.1 hI2.2.2.1 (fun _ adm cnt tim => br_t rfl (F 0 _ _ _ rfl (H0 _ _ _))) (fun c2 h2 hc2 adm tim => br_f (by decide) ?_)
  refine pk_eq c2 c (fun e => F 1 _ _ _ rfl (H1 c _ _ _ g h ?_)) (fun _ => F 0 _ _ _ rfl (H0 _ _ _))
  rw [← e]
  exact h2
theorem lj_Inv_10 {jc rd : Int32} {a1 a3 a4 : Nat → Int32} {rk : List Nat} {x z : Int32} (h : lj_Inv jc rd a1 a3 a4 rk) (hz : z = 0 ∨ z = 1) : lj_Inv jc rd (upd a1 10 x) (upd a3 10 z) a4 rk := by
  obtain ⟨h1, h2, h3, h4, h5, h6, h7⟩ := lj_Inv_a3 (p := 10) h hz
  refine ⟨h1, h2, h3, h4, fun p hp hp0 => ?_, fun p hp => ?_, h7⟩
  · rw [pk_un (by omega)] at hp0
    exact h5 p hp hp0
  · have := (h6 p hp).1
    rw [pk_un (by omega)]
    exact h6 p hp
theorem lj_jb_un {a1 a2 a3 : Nat → Int32} {i q : Nat} {x y z : Int32} (h : q ≠ i) : lj_jb (upd a1 i x) (upd a2 i y) (upd a3 i z) q = lj_jb a1 a2 a3 q := by
  unfold lj_jb
  rw [lj_len_un h, lj_len_un h, pk_un h]
theorem lj_jb_us {a1 a2 a3 : Nat → Int32} {i l d : Nat} (hl : l < 2 ^ 31) (hd : d < 2 ^ 31) : lj_jb (upd a1 i (nI l)) (upd a2 i (nI d)) (upd a3 i 0) i = (l, d, false) := by
  unfold lj_jb
  rw [lj_len_us hl, lj_len_us hd, pk_us]
  rfl
theorem lj_map_un {a1 a2 a3 : Nat → Int32} {i : Nat} {x y z : Int32} {w : List Nat} (h : i ∉ w) : w.map (lj_jb (upd a1 i x) (upd a2 i y) (upd a3 i z)) = w.map (lj_jb a1 a2 a3) :=
  List.map_congr_left (fun q hq => lj_jb_un (fun g => h (by rw [← g]; exact hq)))
theorem lj_map_mid {a1 a2 a3 : Nat → Int32} {i l d : Nat} {u v : List Nat} (hl : l < 2 ^ 31) (hd : d < 2 ^ 31) (h : i ∉ u ++ v) :
    (u ++ i :: v).map (lj_jb (upd a1 i (nI l)) (upd a2 i (nI d)) (upd a3 i 0)) = u.map (lj_jb a1 a2 a3) ++ (l, d, false) :: v.map (lj_jb a1 a2 a3) := by
  rw [List.map_append, List.map_cons, lj_jb_us hl hd, lj_map_un (fun g => h (List.mem_append_left _ g)), lj_map_un (fun g => h (List.mem_append_right _ g))]
theorem lj_welcome {post : Int32 → St1 → Prop} {jc rd adm cnt tim : Int32} {a1 a2 a3 a4 : Nat → Int32} {rk : List Nat} {x y : Int32} {l d : Nat} (hI : lj_Inv jc rd a1 a3 a4 rk) (hD : lj_Dl a2 rk) (hx : x = nI l) (hy : y = nI d) (h1 : 1 ≤ l) (h2 : l ≤ 50) (h3 : d ≤ 200)
    (H : ∀ r adm cnt tim a1' a2' a3' a4', lj_Inv jc rd a1' a3' a4' rk → lj_Dl a2' rk → rk.map (lj_jb a1' a2' a3') = rk.map (lj_jb a1 a2 a3) →
      (r = 0 ∨ (r = 1 ∧ ∃ c c' u v, lj_A a1 a2 a3 rk = some c ∧ rk = u ++ v ∧ lj_spl (lj_len a2') d u v ∧ lj_run 0 0 [] (u.map (lj_jb a1' a2' a3') ++ (l, d, false) :: v.map (lj_jb a1' a2' a3')) = some c' ∧ c < c')) →
      post r (jc, rd, adm, cnt, tim, a1', a2', a3', a4')) :
    wpX_welcome post (jc, rd, adm, cnt, tim, a1, a2, a3, a4) x y := by
  subst hx hy
  have hlen := lj_Inv_len hI
  have h10 : (10 : Nat) ∉ rk := fun g => absurd (hI.2.2.2.2.2.1 10 g).1 (by omega)
  have hI2 := lj_Inv_10 (x := nI l) (z := 0) hI (Or.inl rfl)
  have hD2 : lj_Dl (upd a2 10 (nI d)) rk := fun q hq => by
    rw [pk_un (fun g => h10 (by rw [← g]; exact hq))]
    exact hD q hq
  have hm : rk.map (lj_jb (upd a1 10 (nI l)) (upd a2 10 (nI d)) (upd a3 10 0)) = rk.map (lj_jb a1 a2 a3) := lj_map_un h10
  unfold wpX_welcome
  rw [lj_byte2 l (by omega), lj_short d (by omega)]
  refine lj_isJob h1 h2 h3 (br_f (by decide) ?_)
  refine lj_adm hI.2.1 (lj_Inv_ok hI hD) hI.2.2.2.1 hI.2.2.1 (fun _ adm cnt tim => br_t rfl (H 0 _ _ _ _ _ _ _ hI hD rfl (Or.inl rfl))) (fun c h hc adm tim => br_f (by decide) (nm_e (nm_e (nm_e ?_))))
  refine lj_insert (rk := rk) (i := 10) hI.2.1 rfl (by omega) (by omega) (fun q hq => ?_) hD2 ⟨d, h3, pk_us⟩ hI.2.2.1 (fun u v a4' e hs hr => ?_)
  · have := (hI.2.2.2.2.2.1 q hq).1
    omega
  have hn' : (10 : Nat) ∉ u ++ v := by rw [← e]; exact h10
  have hs' : lj_spl (lj_len (upd a2 10 (nI d))) d u v := by
    rw [lj_len_us (by omega)] at hs
    exact hs
  have el : rk.length = u.length + v.length := by rw [e, List.length_append]
  have hnd : (u ++ 10 :: v).Nodup := lj_mid_nodup (by rw [← e]; exact hI.2.2.2.1) hn'
  have hok : ∀ p ∈ u ++ 10 :: v, lj_ok (upd a1 10 (nI l)) (upd a2 10 (nI d)) p := by
    intro p hp
    rcases lj_mid_mem.mp hp with g | g
    · rw [g]
      exact ⟨by omega, ⟨l, h2, pk_us⟩, ⟨d, h3, pk_us⟩⟩
    · exact lj_Inv_ok hI2 hD2 p (by rw [e]; exact g)
  have F : ∀ z0 adm cnt tim, narrow .boolean (.int z0) = .int z0 → (z0 = 0 ∨ (z0 = 1 ∧ ∃ c c' u v, lj_A a1 a2 a3 rk = some c ∧ rk = u ++ v ∧ lj_spl (lj_len (upd a2 10 (nI d))) d u v ∧ lj_run 0 0 [] (u.map (lj_jb (upd a1 10 (nI l)) (upd a2 10 (nI d)) (upd a3 10 0)) ++ (l, d, false) :: v.map (lj_jb (upd a1 10 (nI l)) (upd a2 10 (nI d)) (upd a3 10 0))) = some c' ∧ c < c')) →
      wX_welcome_75 post z0 jc (nI (rk.length + 1)) adm cnt tim (upd a1 10 (nI l)) (upd a2 10 (nI d)) (upd a3 10 0) a4' := by
    intro z0 adm cnt tim hz hq
    unfold wX_welcome_75
    refine lj_withdraw (u := u) (v := v) (i := 10) (by rw [el]) rfl (by omega) (by omega) (fun q hq => ?_) (fun g => hn' (List.mem_append_left _ g)) hr (fun a4'' hr'' => ⟨hz, ?_⟩)
    · rw [← e] at hq
      have := (hI.2.2.2.2.2.1 q hq).1
      omega
    · rw [← el, ← hI.2.1]
      rw [← e] at hr''
      exact H z0 adm cnt tim _ _ _ a4'' ⟨hI2.1, hI2.2.1, hr'', hI2.2.2.2⟩ hD2 hm hq
  refine lj_adm (rk := u ++ 10 :: v) (by rw [lj_mid_len, ← e]) hok hnd hr (fun _ adm cnt tim => br_t rfl (F 0 _ _ _ rfl (Or.inl rfl))) (fun c2 hc2 _ adm tim => br_f (by decide) ?_)
  refine pk_le c2 c (fun _ => F 0 _ _ _ rfl (Or.inl rfl)) (fun g => F 1 _ _ _ rfl (Or.inr ⟨rfl, c, c2, u, v, h, e, hs', ?_, g⟩))
  rw [lj_map_mid (by omega) (by omega) hn'] at hc2
  rw [lj_map_un (fun g => hn' (List.mem_append_left _ g)), lj_map_un (fun g => hn' (List.mem_append_right _ g))]
  exact hc2
end
section
/-! ===== the law's loop ===== -/
theorem lj_mod (A : Int32) {m k : Int32} (b r : Nat) (hm : m.toBitVec.toNat = 2 ^ b - 1) (hb : b ≤ 30) (hk : k = nI r) (h0 : 0 < r) (hr : r < 2 ^ 31) : ∃ p, p < r ∧ (A &&& m) - (A &&& m) / k * k = nI p := by
  obtain ⟨j, hj, e⟩ := pk_andE A b hm
  have hp : 2 ^ b ≤ 2 ^ 30 := Nat.pow_le_pow_right (by omega) hb
  rw [e, hk, pk_rem (by omega) h0 hr]
  exact ⟨j % r, Nat.mod_lt _ h0, rfl⟩
theorem lj_end {L i : Nat} (hL : L ≤ 260) (hi : i ≤ L) : ((Int32.ofNat L) - 4 < nI i) ↔ L < i + 4 := by
  have e : (Int32.ofNat L - 4).toInt = (L : Int) - 4 := pk_sub_toInt (a := L) (b := 4) (by omega) (by omega)
  rw [Int32.lt_iff_toInt_lt, e, nI_toInt (by omega)]
  omega
theorem lj_263 {post : Int32 → Prop} {L : Nat} {xs : Nat → Int32} {J : Int32 → Int32 → Int32 → Int32 → Int32 → Int32 → (Nat → Int32) → (Nat → Int32) → (Nat → Int32) → (Nat → Int32) → Prop} {i : Nat} {z : Int32} {l d kc ks : Nat} {jc rd adm cnt tim : Int32} {a1 a2 a3 a4 : Nat → Int32} {rk : List Nat}
    (nxt : ∀ jc rd adm cnt tim a1 a2 a3 a4 rk, lj_Inv jc rd a1 a3 a4 rk → lj_Dl a2 rk → J (nI (i + 4)) jc rd adm cnt tim a1 a2 a3 a4)
    (hI : lj_Inv jc rd a1 a3 a4 rk) (hD : lj_Dl a2 rk) (h1 : 1 ≤ l) (h2 : l ≤ 50) (h3 : d ≤ 200) (hz : z = 0 ∨ z = 1) :
    wL_law_263 post L xs J (nI i) z (nI d) (nI l) kc ks jc rd adm cnt tim a1 a2 a3 a4 := by
  unfold wL_law_263
  exact lj_put hI hD rfl rfl h1 h2 h3 hz (nm_r (nI_add i 4) (nxt _ _ _ _ _ _ _ _ _ rk hI hD)) (fun i' u v a4' jc' rd' _ _ _ _ hI' hD' => nm_r (nI_add i 4) (nxt _ _ _ _ _ _ _ _ _ _ hI' hD'))
theorem lj_157 {post : Int32 → Prop} {L : Nat} {xs : Nat → Int32} {J : Int32 → Int32 → Int32 → Int32 → Int32 → Int32 → (Nat → Int32) → (Nat → Int32) → (Nat → Int32) → (Nat → Int32) → Prop} {i : Nat} {z : Int32} {p kc ks : Nat} {jc rd adm cnt tim : Int32} {a1 a2 a3 a4 : Nat → Int32} {rk : List Nat}
    (nxt : ∀ jc rd adm cnt tim a1 a2 a3 a4 rk, lj_Inv jc rd a1 a3 a4 rk → lj_Dl a2 rk → J (nI (i + 4)) jc rd adm cnt tim a1 a2 a3 a4)
    (hI : lj_Inv jc rd a1 a3 a4 rk) (hD : lj_Dl a2 rk) (hp : p < 10) (hz : z = 0 ∨ z = 1) :
    wL_law_157 post L xs J (nI i) z (nI p) kc ks jc rd adm cnt tim a1 a2 a3 a4 := by
  unfold wL_law_157
  exact lj_mkFirm rfl hp hz (fun _ => nm_r (nI_add i 4) (nxt _ _ _ _ _ _ _ _ _ rk hI hD)) (fun _ => nm_r (nI_add i 4) (nxt _ _ _ _ _ _ _ _ _ rk (lj_Inv_a3 hI hz) hD))
theorem lj_law10 (xs : Nat → Int32) (L : Nat) (hL : L ≤ 260) (kc ks : Nat) : ∀ n i jc rd adm cnt tim a1 a2 a3 a4 rk, i ≤ L → L < i + 4 * n → lj_Inv jc rd a1 a3 a4 rk → lj_Dl a2 rk →
    wL_law_10 (fun r => r = 1) L xs kc ks n (nI i) jc rd adm cnt tim a1 a2 a3 a4 := by
  intro n
  induction n with
  | zero => intro i jc rd adm cnt tim a1 a2 a3 a4 rk hi hn; exact absurd hn (by omega)
  | succ n ih =>
    intro i jc rd adm cnt tim a1 a2 a3 a4 rk hi hn hI hD
    refine ek_if (lj_end hL hi) (fun _ => rfl) (fun z => ?_)
    have nxt : ∀ jc rd adm cnt tim a1 a2 a3 a4 rk, lj_Inv jc rd a1 a3 a4 rk → lj_Dl a2 rk → wL_law_10 (fun r => r = 1) L xs kc ks n (nI (i + 4)) jc rd adm cnt tim a1 a2 a3 a4 :=
      fun jc rd adm cnt tim a1 a2 a3 a4 rk h h' => ih (i + 4) jc rd adm cnt tim a1 a2 a3 a4 rk (by omega) (by omega) h h'
    refine ⟨pk_in (i + 1) L (by omega) (nI_1 i), fun A _ => ⟨pk_in (i + 2) L (by omega) (nI_add i 2), fun B _ => ⟨by decide, fun P eP => ⟨by decide, fun Q eQ => ⟨by decide, fun D eD => ?_⟩⟩⟩⟩⟩
    obtain ⟨p, hp, eP'⟩ := lj_mod A (m := 255) (k := 10) 8 10 (by decide) (by omega) rfl (by omega) (by omega)
    obtain ⟨l, hl, eQ'⟩ := lj_mod A (m := 63) (k := 50) 6 50 (by decide) (by omega) rfl (by omega) (by omega)
    obtain ⟨d, hd, eD'⟩ := lj_mod B (m := 255) (k := 201) 8 201 (by decide) (by omega) rfl (by omega) (by omega)
    rw [eP'] at eP
    rw [eQ', show (1 : Int32) + nI l = nI (1 + l) from nI_add 1 l] at eQ
    rw [eD'] at eD
    subst eP eQ eD
    refine lj_mostI hI hD (fun r adm cnt tim hr => ⟨pk_in i L (by omega), fun k _ => ?_⟩)
    refine br_c (fun _ => ⟨pk_in (i + 3) L (by omega) (nI_add i 3), br_c (fun _ => lj_263 nxt hI hD (by omega) (by omega) (by omega) (Or.inr rfl)) (fun _ => lj_263 nxt hI hD (by omega) (by omega) (by omega) (Or.inl rfl))⟩) (fun _ => ?_)
    refine br_c (fun _ => ⟨pk_in (i + 3) L (by omega) (nI_add i 3), br_c (fun _ => lj_263 nxt hI hD (by omega) (by omega) (by omega) (Or.inr rfl)) (fun _ => lj_263 nxt hI hD (by omega) (by omega) (by omega) (Or.inl rfl))⟩) (fun _ => ?_)
    refine br_c (fun _ => ?_) (fun _ => ?_)
    · exact lj_drop hI rfl hp (fun _ => nm_r (nI_add i 4) (nxt _ _ _ _ _ _ _ _ _ rk hI hD)) (fun r jc' rd' a1' a4' rk' _ hq hI' => nm_r (nI_add i 4) (nxt _ _ _ _ _ _ _ _ _ rk' hI' (fun q hq' => hD q (hq q hq').1)))
    refine br_c (fun _ => ?_) (fun _ => ?_)
    · refine br_c (fun _ => ?_) (fun _ => nm_r (nI_add i 4) (nxt _ _ _ _ _ _ _ _ _ rk hI hD))
      obtain ⟨t, ht, et⟩ := pk_andE A (m := 15) 4 (by decide)
      exact lj_elapse hI hD et (by omega) (fun r jc' rd' a1' a2' a4' rk' hI' hD' => nm_r (nI_add i 4) (nxt _ _ _ _ _ _ _ _ _ rk' hI' hD'))
    refine br_c (fun _ => br_c (fun _ => lj_157 nxt hI hD hp (Or.inr rfl)) (fun _ => lj_157 nxt hI hD hp (Or.inl rfl))) (fun _ => ?_)
    refine br_c (fun _ => ?_) (fun _ => ?_)
    · refine lj_afford hI hD rfl hp (fun adm cnt tim => br_t rfl (nm_r (nI_add i 4) (nxt _ _ _ _ _ _ _ _ _ rk hI hD))) (fun c adm cnt tim g0 g1 g2 => br_f (by decide) ?_)
      obtain ⟨er, hc⟩ := lj_ans_some hr g1
      refine br_f (by rw [er]; exact nI_pos (by omega)) ?_
      have hI' := lj_Inv_a3 (p := p) (z := 1) hI (Or.inr rfl)
      refine lj_mkFirm rfl hp (Or.inr rfl) (fun g => absurd g g0) (fun _ => br_f (by decide) ?_)
      refine lj_mostI hI' hD (fun r2 adm cnt tim hr2 => br_t ?_ (nm_r (nI_add i 4) (nxt _ _ _ _ _ _ _ _ _ rk hI' hD)))
      rw [er]
      exact (lj_ans_some hr2 g2).1
    refine br_c (fun _ => ?_) (fun _ => trivial)
    refine lj_welcome hI hD rfl rfl (by omega) (by omega) (by omega) (fun r2 adm cnt tim a1' a2' a3' a4' hI' hD' hm hr2 => ?_)
    rcases hr2 with e2 | ⟨e2, c, c', u, v, g1, e, hs, g2, hlt⟩
    · exact br_t e2 (nm_r (nI_add i 4) (nxt _ _ _ _ _ _ _ _ _ rk hI' hD'))
    · refine br_f (by rw [e2]; decide) ?_
      obtain ⟨er, hc⟩ := lj_ans_some hr g1
      refine br_t (by rw [er]; exact nI_pos' (by omega)) ?_
      refine lj_put hI' hD' rfl rfl (by omega) (by omega) (by omega) (Or.inl rfl) (br_t (by decide) (nm_r (nI_add i 4) (nxt _ _ _ _ _ _ _ _ _ rk hI' hD'))) (fun i2 u' v' a4'' jc' rd' hi2 hn2 e' hs' hI2 hD2 => br_f (nI_pos (by omega)) ?_)
      refine lj_mostI hI2 hD2 (fun r3 adm cnt tim hr3 => br_t ?_ (nm_r (nI_add i 4) (nxt _ _ _ _ _ _ _ _ _ _ hI2 hD2)))
      obtain ⟨eu, ev⟩ := lj_spl_1 (fun q _ => rfl) (e.symm.trans e') hs hs'
      subst eu ev
      have g3 : lj_A (upd a1' i2 (nI (1 + l))) (upd a2' i2 (nI d)) (upd a3' i2 0) (u ++ i2 :: v) = some c' := by
        unfold lj_A
        rw [lj_map_mid (by omega) (by omega) (by rw [← e]; exact hn2)]
        exact g2
      obtain ⟨c0, f1, f2⟩ := lj_runIns _ _ _ _ 0 0 [] List.Pairwise.nil c' g2
      rw [← List.map_append, ← e, hm] at f1
      have f3 : c0 = c := Option.some.inj (f1.symm.trans g1)
      have f4 : c' = c + 1 := by omega
      rw [(lj_ans_some hr3 g3).1, er, f4]
      exact (nI_1 c).symm
theorem i_vc (xs : Nat → Int32) (L : Nat) (hL : L ≤ 260) : wpL_law (fun r => r = 1) L xs :=
  ⟨4, 44, by omega, by omega, by omega, by omega, by omega, by omega, by omega, by omega, by omega, by omega, 66, lj_law10 xs L hL _ _ 66 0 _ _ _ _ _ _ _ _ _ [] (by omega) (by omega) lj_Inv_0 (fun p hp => absurd hp (by simp))⟩
end
