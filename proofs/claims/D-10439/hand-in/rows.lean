section
/-- one node's content: version, numbers, targets, stamps -/
abbrev cs_C : Type := Int32 × (Fin 4 → Int32) × (Fin 4 → Int32) × (Fin 4 → Int32)
/-- a store: a content for each node (or cell) -/
abbrev cs_M : Type := Nat → cs_C
/-- the content at cell k of four arrays -/
def cs_c (n t q v : Nat → Int32) (k : Nat) : cs_C := (v k, fun s => n (4 * k + s.val), fun s => t (4 * k + s.val), fun s => q (4 * k + s.val))
/-- a log's number, -1 for none -/
def cs_e (x : Option Nat) : Int32 := match x with
  | none => -1
  | some k => nI k
theorem cs_us {α : Type} {f : Nat → α} {k : Nat} {v : α} : va_up f k v k = v := by simp [va_up]
theorem cs_un {α : Type} {f : Nat → α} {k j : Nat} {v : α} (h : j ≠ k) : va_up f k v j = f j := by simp [va_up, h]
theorem cs_4 (f i : Nat) : (4 : Int32) * nI f + nI i = nI (4 * f + i) := by
  rw [show (4 : Int32) = nI 4 from rfl, pk_mul, nI_add]
theorem cs_16 (f i : Nat) : (16 : Int32) * nI f + nI i = nI (16 * f + i) := by
  rw [show (16 : Int32) = nI 16 from rfl, pk_mul, nI_add]
theorem cs_m1 {n : Nat} (h : n < 1000) : nI n ≠ -1 := by
  intro e
  have h2 := congrArg Int32.toInt e
  rw [nI_toInt (by omega)] at h2
  have h3 : (-1 : Int32).toInt = -1 := by decide
  omega
theorem cs_inj {a b : Nat} (ha : a < 1000) (hb : b < 1000) (h : nI a = nI b) : a = b := (nI_eq (by omega) (by omega)).mp h
theorem cs_neg : (-1 : Int32) < 0 := by decide
theorem cs_neg' : ¬ (0 : Int32) ≤ -1 := by decide
theorem cs_cpy_0 {f g : Nat → Int32} {sp dp : Nat} : va_cpy f g sp dp 0 = g := by
  funext j
  exact pk_cpy_out (by omega)
theorem cs_cpy_s {f g : Nat → Int32} {sp dp i k l : Nat} (hk : k = dp + i) (hl : l = sp + i) : upd (va_cpy f g sp dp i) k (f l) = va_cpy f g sp dp (i + 1) := by
  subst hk hl
  funext j
  by_cases e : j = dp + i
  · rw [e, pk_us, pk_cpy_in (by omega) (by omega), show dp + i - dp = i by omega]
  · rw [pk_un e]
    by_cases h1 : dp ≤ j ∧ j < dp + i
    · rw [pk_cpy_in h1.1 h1.2, pk_cpy_in h1.1 (by omega)]
    · rw [pk_cpy_out (by omega), pk_cpy_out (by omega)]
/-- one step of the copying loops -/
theorem cs_st {f g : Nat → Int32} {k k' i : Nat} (hk : k < 1000) (hk' : k' < 1000) (hi : i < 4) : upd (va_cpy f g (4 * k') (4 * k) i) ((4 : Int32) * nI k + nI i).toNatClampNeg (f ((4 : Int32) * nI k' + nI i).toNatClampNeg) = va_cpy f g (4 * k') (4 * k) (i + 1) := by
  rw [cs_4, cs_4, nI_clamp (by omega), nI_clamp (by omega)]
  exact cs_cpy_s rfl rfl
theorem cs_cE {n t q v n' t' q' v' : Nat → Int32} {j k : Nat} (hv : v j = v' k) (hn : ∀ s, s < 4 → n (4 * j + s) = n' (4 * k + s)) (ht : ∀ s, s < 4 → t (4 * j + s) = t' (4 * k + s)) (hq : ∀ s, s < 4 → q (4 * j + s) = q' (4 * k + s)) : cs_c n t q v j = cs_c n' t' q' v' k := by
  have e1 : (fun s : Fin 4 => n (4 * j + s.val)) = (fun s : Fin 4 => n' (4 * k + s.val)) := funext (fun s => hn s.val s.isLt)
  have e2 : (fun s : Fin 4 => t (4 * j + s.val)) = (fun s : Fin 4 => t' (4 * k + s.val)) := funext (fun s => ht s.val s.isLt)
  have e3 : (fun s : Fin 4 => q (4 * j + s.val)) = (fun s : Fin 4 => q' (4 * k + s.val)) := funext (fun s => hq s.val s.isLt)
  unfold cs_c
  rw [hv, e1, e2, e3]
/-- four places copied and the version: one content stored -/
theorem cs_copy {n t q v n' t' q' v' : Nat → Int32} {k k' : Nat} : cs_c (va_cpy n' n (4 * k') (4 * k) 4) (va_cpy t' t (4 * k') (4 * k) 4) (va_cpy q' q (4 * k') (4 * k) 4) (upd v k (v' k')) = va_up (cs_c n t q v) k (cs_c n' t' q' v' k') := by
  funext j
  by_cases e : j = k
  · subst e
    rw [cs_us]
    refine cs_cE pk_us (fun s hs => ?_) (fun s hs => ?_) (fun s hs => ?_)
    all_goals rw [pk_cpy_in (by omega) (by omega), show 4 * j + s - 4 * j = s by omega]
  · rw [cs_un e]
    refine cs_cE (pk_un e) (fun s hs => ?_) (fun s hs => ?_) (fun s hs => ?_)
    all_goals exact pk_cpy_out (by omega)
/-- a content with one slot written -/
def cs_put (c : cs_C) (s : Fin 4) (v t q : Int32) : cs_C := (c.1, fun j => if j = s then v else c.2.1 j, fun j => if j = s then t else c.2.2.1 j, fun j => if j = s then q else c.2.2.2 j)
theorem cs_upd1 {n : Nat → Int32} {k : Nat} {s : Fin 4} {x : Int32} : (fun j : Fin 4 => upd n (4 * k + s.val) x (4 * k + j.val)) = (fun j : Fin 4 => if j = s then x else n (4 * k + j.val)) := by
  funext j
  by_cases e : j = s
  · rw [if_pos e, e, pk_us]
  · rw [if_neg e, pk_un]
    intro h
    exact e (Fin.ext (by omega))
theorem cs_upd {n t q v : Nat → Int32} {k : Nat} {s : Fin 4} {x y z : Int32} : cs_c (upd n (4 * k + s.val) x) (upd t (4 * k + s.val) y) (upd q (4 * k + s.val) z) v = va_up (cs_c n t q v) k (cs_put (cs_c n t q v k) s x y z) := by
  have hs := s.isLt
  funext j
  by_cases e : j = k
  · subst e
    rw [cs_us]
    unfold cs_c cs_put
    rw [cs_upd1, cs_upd1, cs_upd1]
  · rw [cs_un e]
    refine cs_cE rfl (fun i hi => ?_) (fun i hi => ?_) (fun i hi => ?_)
    all_goals exact pk_un (by omega)
end
section
/-- node n as log x has it, else c -/
def cs_lay (G : cs_M) (g : Nat → Int32) (x : Option Nat) (n : Nat) (c : cs_C) : cs_C := match x with
  | none => c
  | some k => if g (16 * k + n) = 0 then c else G (16 * k + n)
theorem cs_lay_t {G : cs_M} {g : Nat → Int32} {k n : Nat} {c : cs_C} (h : g (16 * k + n) = 0) : cs_lay G g (some k) n c = c := if_pos h
theorem cs_lay_f {G : cs_M} {g : Nat → Int32} {k n : Nat} {c : cs_C} (h : ¬ g (16 * k + n) = 0) : cs_lay G g (some k) n c = G (16 * k + n) := if_neg h
theorem cs_lay_c {G G' : cs_M} {g g' : Nat → Int32} {x : Option Nat} {n : Nat} {c c' : cs_C} (hc : c = c') (h : ∀ k, x = some k → g (16 * k + n) = g' (16 * k + n) ∧ G (16 * k + n) = G' (16 * k + n)) : cs_lay G g x n c = cs_lay G' g' x n c' := by
  subst hc
  cases x with
  | none => rfl
  | some k =>
    obtain ⟨h1, h2⟩ := h k rfl
    unfold cs_lay
    dsimp only
    rw [h1, h2]
/-- a log entry written elsewhere -/
theorem cs_lay_up {G : cs_M} {g : Nat → Int32} {x : Option Nat} {n e : Nat} {c d : cs_C} {w : Int32} (h : ∀ k, x = some k → 16 * k + n ≠ e) : cs_lay (va_up G e d) (upd g e w) x n c = cs_lay G g x n c :=
  cs_lay_c rfl (fun k hk => ⟨pk_un (h k hk), cs_un (h k hk)⟩)
theorem cs_lay_us {G : cs_M} {g : Nat → Int32} {k n : Nat} {c d : cs_C} : cs_lay (va_up G (16 * k + n) d) (upd g (16 * k + n) 1) (some k) n c = d := by
  rw [cs_lay_f (by rw [pk_us]; decide), cs_us]
/-- an entry struck out elsewhere -/
theorem cs_lay_un {G : cs_M} {g : Nat → Int32} {x : Option Nat} {n e : Nat} {c c' : cs_C} {w : Int32} (hc : c = c') (h : ∀ k, x = some k → 16 * k + n ≠ e) : cs_lay G (upd g e w) x n c = cs_lay G g x n c' :=
  cs_lay_c hc (fun k hk => ⟨pk_un (h k hk), rfl⟩)
/-- the picture: L what the store answers, S the snapshot, D the settled generation -/
def cs_J (L S D : cs_M) (mk op : Option Nat) (pr : Nat) (H G : cs_M) (g nd d z : Nat → Int32) (F : cs_M) : Prop :=
  pr < 3 ∧
  (∀ k, mk = some k → k < 3 ∧ k ≠ pr) ∧
  (∀ k, op = some k → k < 3 ∧ k ≠ pr ∧ mk ≠ some k) ∧
  (∀ f, f < 5 → nd f = -1 ∨ ∃ n, n < 16 ∧ nd f = nI n) ∧
  (∀ f f' n, f < 5 → f' < 5 → n < 16 → nd f = nI n → nd f' = nI n → f = f') ∧
  (∀ f, f < 5 → d f = 0 ∨ d f = 1) ∧
  (∀ f, f < 5 → z f ≠ 0 → d f ≠ 0 ∧ ∃ k, op = some k) ∧
  (∀ f, f < 5 → d f ≠ 0 → nd f ≠ -1) ∧
  (∀ f n, f < 5 → n < 16 → nd f = nI n → F f = L n) ∧
  (∀ n, n < 16 → (∀ f, f < 5 → nd f = nI n → d f = 0) → cs_lay G g (some pr) n (cs_lay G g op n (cs_lay G g mk n (H n))) = L n) ∧
  (∀ f n, f < 5 → n < 16 → nd f = nI n → z f ≠ 0 → g (16 * pr + n) = 0 ∧ S n = L n) ∧
  (∀ n, n < 16 → (∀ f, f < 5 → nd f = nI n → z f = 0) → cs_lay G g op n (cs_lay G g mk n (H n)) = S n) ∧
  (∀ n, n < 16 → cs_lay G g mk n (H n) = D n)
section
variable {L S D : cs_M} {mk op : Option Nat} {pr : Nat} {H G : cs_M} {g nd d z : Nat → Int32} {F : cs_M}
/-- a frozen frame goes to the snapshot's log -/
theorem cs_J_frz (J : cs_J L S D mk op pr H G g nd d z F) {f : Nat} (hf : f < 5) (hz : z f ≠ 0) :
    ∃ n k, n < 16 ∧ k < 3 ∧ nd f = nI n ∧ op = some k ∧ cs_J L S D mk op pr H (va_up G (16 * k + n) (F f)) (upd g (16 * k + n) 1) nd (upd d f 0) (upd z f 0) F := by
  obtain ⟨j1, j2, j3, j4, j5, j6, j7, j8, j9, j10, j11, j12, j13⟩ := J
  obtain ⟨hd, k, hk⟩ := j7 f hf hz
  obtain ⟨n, hn, hnd⟩ : ∃ n, n < 16 ∧ nd f = nI n := (j4 f hf).resolve_left (j8 f hf hd)
  obtain ⟨k3, kp, km⟩ := j3 k hk
  obtain ⟨g0, hS⟩ := j11 f n hf hn hnd hz
  have hF := j9 f n hf hn hnd
  subst hk
  have em : ∀ n', n' < 16 → cs_lay (va_up G (16 * k + n) (F f)) (upd g (16 * k + n) 1) mk n' (H n') = cs_lay G g mk n' (H n') := fun n' hn' =>
    cs_lay_up (fun k' hk' => by
      have : k' ≠ k := fun e => km (by rw [hk', e])
      omega)
  have eo : ∀ n', n' < 16 → n' ≠ n → cs_lay (va_up G (16 * k + n) (F f)) (upd g (16 * k + n) 1) (some k) n' (cs_lay (va_up G (16 * k + n) (F f)) (upd g (16 * k + n) 1) mk n' (H n')) = cs_lay G g (some k) n' (cs_lay G g mk n' (H n')) := fun n' hn' hne => by
    rw [em n' hn']
    exact cs_lay_up (fun k' hk' => by
      injection hk' with hk'
      omega)
  have nn : ∀ n' f', n' < 16 → n' ≠ n → f' < 5 → nd f' = nI n' → f' ≠ f := fun n' f' hn' hne hf' h' e => by
    subst e
    exact hne (cs_inj (by omega) (by omega) (by rw [← h', hnd]))
  refine ⟨n, k, hn, k3, hnd, rfl, j1, j2, j3, j4, j5, ?_, ?_, ?_, j9, ?_, ?_, ?_, ?_⟩
  · intro f' hf'
    by_cases e : f' = f
    · rw [e, pk_us]; exact Or.inl rfl
    · rw [pk_un e]; exact j6 f' hf'
  · intro f' hf' h'
    by_cases e : f' = f
    · rw [e, pk_us] at h'; exact absurd rfl h'
    · rw [pk_un e] at h'
      rw [pk_un e]; exact j7 f' hf' h'
  · intro f' hf' h'
    by_cases e : f' = f
    · rw [e, pk_us] at h'; exact absurd rfl h'
    · rw [pk_un e] at h'
      exact j8 f' hf' h'
  · intro n' hn' h'
    by_cases e : n' = n
    · subst e
      have gp : upd g (16 * k + n') 1 (16 * pr + n') = 0 := by rw [pk_un (by omega)]; exact g0
      rw [cs_lay_t gp, cs_lay_us]
      exact hF
    · rw [eo n' hn' e, cs_lay_up (fun k' hk' => by injection hk' with hk'; omega)]
      refine j10 n' hn' (fun f' hf' hh => ?_)
      have := h' f' hf' hh
      rw [pk_un (nn n' f' hn' e hf' hh)] at this
      exact this
  · intro f' n' hf' hn' h' hz'
    by_cases e : f' = f
    · rw [e, pk_us] at hz'; exact absurd rfl hz'
    · rw [pk_un e] at hz'
      rw [pk_un (by omega)]
      exact j11 f' n' hf' hn' h' hz'
  · intro n' hn' h'
    by_cases e : n' = n
    · subst e
      rw [cs_lay_us, hF, hS]
    · rw [eo n' hn' e]
      refine j12 n' hn' (fun f' hf' hh => ?_)
      have := h' f' hf' hh
      rw [pk_un (nn n' f' hn' e hf' hh)] at this
      exact this
  · intro n' hn'
    rw [em n' hn']
    exact j13 n' hn'
/-- a dirty frame goes to the present log -/
theorem cs_J_sav (J : cs_J L S D mk op pr H G g nd d z F) {f : Nat} (hf : f < 5) (hd : d f ≠ 0) (hz : z f = 0) :
    ∃ n, n < 16 ∧ nd f = nI n ∧ cs_J L S D mk op pr H (va_up G (16 * pr + n) (F f)) (upd g (16 * pr + n) 1) nd (upd d f 0) z F := by
  obtain ⟨j1, j2, j3, j4, j5, j6, j7, j8, j9, j10, j11, j12, j13⟩ := J
  obtain ⟨n, hn, hnd⟩ : ∃ n, n < 16 ∧ nd f = nI n := (j4 f hf).resolve_left (j8 f hf hd)
  have hF := j9 f n hf hn hnd
  have em : ∀ n', n' < 16 → cs_lay (va_up G (16 * pr + n) (F f)) (upd g (16 * pr + n) 1) mk n' (H n') = cs_lay G g mk n' (H n') := fun n' hn' =>
    cs_lay_up (fun k' hk' => by
      have := j2 k' hk'
      omega)
  have eo : ∀ n', n' < 16 → cs_lay (va_up G (16 * pr + n) (F f)) (upd g (16 * pr + n) 1) op n' (cs_lay (va_up G (16 * pr + n) (F f)) (upd g (16 * pr + n) 1) mk n' (H n')) = cs_lay G g op n' (cs_lay G g mk n' (H n')) := fun n' hn' => by
    rw [em n' hn']
    exact cs_lay_up (fun k' hk' => by
      have := (j3 k' hk').2.1
      omega)
  have nn : ∀ n' f', n' < 16 → n' ≠ n → f' < 5 → nd f' = nI n' → f' ≠ f := fun n' f' hn' hne hf' h' e => by
    subst e
    exact hne (cs_inj (by omega) (by omega) (by rw [← h', hnd]))
  refine ⟨n, hn, hnd, j1, j2, j3, j4, j5, ?_, ?_, ?_, j9, ?_, ?_, ?_, ?_⟩
  · intro f' hf'
    by_cases e : f' = f
    · rw [e, pk_us]; exact Or.inl rfl
    · rw [pk_un e]; exact j6 f' hf'
  · intro f' hf' h'
    by_cases e : f' = f
    · rw [e] at h'; exact absurd hz h'
    · rw [pk_un e]; exact j7 f' hf' h'
  · intro f' hf' h'
    by_cases e : f' = f
    · rw [e, pk_us] at h'; exact absurd rfl h'
    · rw [pk_un e] at h'
      exact j8 f' hf' h'
  · intro n' hn' h'
    by_cases e : n' = n
    · subst e
      rw [cs_lay_us]
      exact hF
    · rw [eo n' hn', cs_lay_up (fun k' hk' => by injection hk' with hk'; omega)]
      refine j10 n' hn' (fun f' hf' hh => ?_)
      have := h' f' hf' hh
      rw [pk_un (nn n' f' hn' e hf' hh)] at this
      exact this
  · intro f' n' hf' hn' h' hz'
    have e : n' ≠ n := fun e => by
      subst e
      have := j5 f' f n' hf' hf hn' h' hnd
      rw [this] at hz'
      exact hz' hz
    rw [pk_un (by omega)]
    exact j11 f' n' hf' hn' h' hz'
  · intro n' hn' h'
    rw [eo n' hn']
    exact j12 n' hn' h'
  · intro n' hn'
    rw [em n' hn']
    exact j13 n' hn'
/-- a clean frame is given up -/
theorem cs_J_drop (J : cs_J L S D mk op pr H G g nd d z F) {f : Nat} (hf : f < 5) (hd : d f = 0) :
    cs_J L S D mk op pr H G g (upd nd f (-1)) d z F := by
  obtain ⟨j1, j2, j3, j4, j5, j6, j7, j8, j9, j10, j11, j12, j13⟩ := J
  have hz : z f = 0 := Decidable.byContradiction (fun h => (j7 f hf h).1 hd)
  have key : ∀ f' n, f' < 5 → n < 16 → upd nd f (-1) f' = nI n → f' ≠ f ∧ nd f' = nI n := fun f' n hf' hn h' => by
    by_cases e : f' = f
    · rw [e, pk_us] at h'; exact absurd h'.symm (cs_m1 (by omega))
    · rw [pk_un e] at h'; exact ⟨e, h'⟩
  refine ⟨j1, j2, j3, ?_, ?_, j6, j7, ?_, ?_, ?_, ?_, ?_, j13⟩
  · intro f' hf'
    by_cases e : f' = f
    · rw [e, pk_us]; exact Or.inl rfl
    · rw [pk_un e]; exact j4 f' hf'
  · intro f1 f2 n h1 h2 hn e1 e2
    exact j5 f1 f2 n h1 h2 hn (key f1 n h1 hn e1).2 (key f2 n h2 hn e2).2
  · intro f' hf' h'
    by_cases e : f' = f
    · rw [e] at h'; exact absurd hd h'
    · rw [pk_un e]; exact j8 f' hf' h'
  · intro f' n hf' hn h'
    exact j9 f' n hf' hn (key f' n hf' hn h').2
  · intro n hn h'
    refine j10 n hn (fun f' hf' hh => ?_)
    by_cases e : f' = f
    · rw [e]; exact hd
    · exact h' f' hf' (by rw [pk_un e]; exact hh)
  · intro f' n hf' hn h' hz'
    exact j11 f' n hf' hn (key f' n hf' hn h').2 hz'
  · intro n hn h'
    refine j12 n hn (fun f' hf' hh => ?_)
    by_cases e : f' = f
    · rw [e]; exact hz
    · exact h' f' hf' (by rw [pk_un e]; exact hh)
/-- the newest copy, when no frame holds the node -/
theorem cs_J_new (J : cs_J L S D mk op pr H G g nd d z F) {n : Nat} (hn : n < 16) (hno : ∀ f, f < 5 → nd f ≠ nI n) :
    cs_lay G g (some pr) n (cs_lay G g op n (cs_lay G g mk n (H n))) = L n :=
  J.2.2.2.2.2.2.2.2.2.1 n hn (fun f hf h => absurd h (hno f hf))
/-- a node is loaded into an empty frame -/
theorem cs_J_load (J : cs_J L S D mk op pr H G g nd d z F) {f n : Nat} (hf : f < 5) (hn : n < 16) (he : nd f = -1) (hno : ∀ f, f < 5 → nd f ≠ nI n) :
    cs_J L S D mk op pr H G g (upd nd f (nI n)) (upd d f 0) (upd z f 0) (va_up F f (L n)) := by
  have hnew := cs_J_new J hn hno
  obtain ⟨j1, j2, j3, j4, j5, j6, j7, j8, j9, j10, j11, j12, j13⟩ := J
  have hd : d f = 0 := Decidable.byContradiction (fun h => j8 f hf h he)
  have hz : z f = 0 := Decidable.byContradiction (fun h => (j7 f hf h).1 hd)
  have key : ∀ f' n', f' < 5 → n' < 16 → upd nd f (nI n) f' = nI n' → (f' = f ∧ n' = n) ∨ (f' ≠ f ∧ n' ≠ n ∧ nd f' = nI n') := fun f' n' hf' hn' h' => by
    by_cases e : f' = f
    · rw [e, pk_us] at h'; exact Or.inl ⟨e, (cs_inj (by omega) (by omega) h').symm⟩
    · rw [pk_un e] at h'
      refine Or.inr ⟨e, fun e2 => ?_, h'⟩
      subst e2
      exact hno f' hf' h'
  refine ⟨j1, j2, j3, ?_, ?_, ?_, ?_, ?_, ?_, ?_, ?_, ?_, j13⟩
  · intro f' hf'
    by_cases e : f' = f
    · rw [e, pk_us]; exact Or.inr ⟨n, hn, rfl⟩
    · rw [pk_un e]; exact j4 f' hf'
  · intro f1 f2 n' h1 h2 hn' e1 e2
    rcases key f1 n' h1 hn' e1 with ⟨q1, q2⟩ | ⟨q1, q2, q3⟩
    · rcases key f2 n' h2 hn' e2 with ⟨r1, r2⟩ | ⟨r1, r2, r3⟩
      · rw [q1, r1]
      · exact absurd q2 r2
    · rcases key f2 n' h2 hn' e2 with ⟨r1, r2⟩ | ⟨r1, r2, r3⟩
      · exact absurd r2 q2
      · exact j5 f1 f2 n' h1 h2 hn' q3 r3
  · intro f' hf'
    by_cases e : f' = f
    · rw [e, pk_us]; exact Or.inl rfl
    · rw [pk_un e]; exact j6 f' hf'
  · intro f' hf' h'
    by_cases e : f' = f
    · rw [e, pk_us] at h'; exact absurd rfl h'
    · rw [pk_un e] at h'
      rw [pk_un e]; exact j7 f' hf' h'
  · intro f' hf' h'
    by_cases e : f' = f
    · rw [e, pk_us] at h'; exact absurd rfl h'
    · rw [pk_un e] at h'
      rw [pk_un e]; exact j8 f' hf' h'
  · intro f' n' hf' hn' h'
    rcases key f' n' hf' hn' h' with ⟨q1, q2⟩ | ⟨q1, q2, q3⟩
    · rw [q1, q2, cs_us]
    · rw [cs_un q1]; exact j9 f' n' hf' hn' q3
  · intro n' hn' h'
    by_cases e : n' = n
    · rw [e]; exact hnew
    · refine j10 n' hn' (fun f' hf' hh => ?_)
      have e2 : f' ≠ f := fun q => by
        rw [q, he] at hh
        exact cs_m1 (by omega) hh.symm
      have := h' f' hf' (by rw [pk_un e2]; exact hh)
      rw [pk_un e2] at this
      exact this
  · intro f' n' hf' hn' h' hz'
    rcases key f' n' hf' hn' h' with ⟨q1, q2⟩ | ⟨q1, q2, q3⟩
    · rw [q1, pk_us] at hz'; exact absurd rfl hz'
    · rw [pk_un q1] at hz'
      exact j11 f' n' hf' hn' q3 hz'
  · intro n' hn' h'
    refine j12 n' hn' (fun f' hf' hh => ?_)
    have e2 : f' ≠ f := fun q => by
      rw [q, he] at hh
      exact cs_m1 (by omega) hh.symm
    have := h' f' hf' (by rw [pk_un e2]; exact hh)
    rw [pk_un e2] at this
    exact this
/-- a frame is marked dirty -/
theorem cs_J_dirty (J : cs_J L S D mk op pr H G g nd d z F) {f n : Nat} (hf : f < 5) (hn : n < 16) (he : nd f = nI n) :
    cs_J L S D mk op pr H G g nd (upd d f 1) z F := by
  obtain ⟨j1, j2, j3, j4, j5, j6, j7, j8, j9, j10, j11, j12, j13⟩ := J
  refine ⟨j1, j2, j3, j4, j5, ?_, ?_, ?_, j9, ?_, j11, j12, j13⟩
  · intro f' hf'
    by_cases e : f' = f
    · rw [e, pk_us]; exact Or.inr rfl
    · rw [pk_un e]; exact j6 f' hf'
  · intro f' hf' h'
    refine ⟨?_, (j7 f' hf' h').2⟩
    by_cases e : f' = f
    · rw [e, pk_us]; decide
    · rw [pk_un e]; exact (j7 f' hf' h').1
  · intro f' hf' h'
    by_cases e : f' = f
    · rw [e, he]; exact cs_m1 (by omega)
    · rw [pk_un e] at h'
      exact j8 f' hf' h'
  · intro n' hn' h'
    refine j10 n' hn' (fun f' hf' hh => ?_)
    have := h' f' hf' hh
    by_cases e : f' = f
    · rw [e, pk_us] at this; exact absurd this (by decide)
    · rw [pk_un e] at this
      exact this
/-- a dirty frame that is not frozen is written -/
theorem cs_J_write (J : cs_J L S D mk op pr H G g nd d z F) {f n : Nat} (hf : f < 5) (hn : n < 16) (he : nd f = nI n) (hd : d f ≠ 0) (hz : z f = 0) (c : cs_C) :
    cs_J (va_up L n c) S D mk op pr H G g nd d z (va_up F f c) := by
  obtain ⟨j1, j2, j3, j4, j5, j6, j7, j8, j9, j10, j11, j12, j13⟩ := J
  refine ⟨j1, j2, j3, j4, j5, j6, j7, j8, ?_, ?_, ?_, j12, j13⟩
  · intro f' n' hf' hn' h'
    by_cases e : n' = n
    · subst e
      rw [j5 f' f n' hf' hf hn' h' he, cs_us, cs_us]
    · have e2 : f' ≠ f := fun q => by
        rw [q, he] at h'
        exact e (cs_inj (by omega) (by omega) h').symm
      rw [cs_un e, cs_un e2]
      exact j9 f' n' hf' hn' h'
  · intro n' hn' h'
    have e : n' ≠ n := fun e => by
      subst e
      exact hd (h' f hf he)
    rw [cs_un e]
    exact j10 n' hn' h'
  · intro f' n' hf' hn' h' hz'
    have e : n' ≠ n := fun e => by
      subst e
      rw [j5 f' f n' hf' hf hn' h' he] at hz'
      exact hz' hz
    rw [cs_un e]
    exact j11 f' n' hf' hn' h' hz'
/-- a settled node is moved home -/
theorem cs_J_move {k : Nat} (J : cs_J L S D (some k) op pr H G g nd d z F) {n : Nat} (hn : n < 16) (hg : g (16 * k + n) ≠ 0) :
    cs_J L S D (some k) op pr (va_up H n (G (16 * k + n))) G (upd g (16 * k + n) 0) nd d z F := by
  obtain ⟨j1, j2, j3, j4, j5, j6, j7, j8, j9, j10, j11, j12, j13⟩ := J
  obtain ⟨k3, kp⟩ := j2 k rfl
  have em : ∀ n', n' < 16 → cs_lay G (upd g (16 * k + n) 0) (some k) n' (va_up H n (G (16 * k + n)) n') = cs_lay G g (some k) n' (H n') := fun n' hn' => by
    by_cases e : n' = n
    · subst e
      rw [cs_lay_t pk_us, cs_us, cs_lay_f hg]
    · rw [cs_un e]
      exact cs_lay_un rfl (fun k' hk' => by injection hk' with hk'; omega)
  have eo : ∀ n', n' < 16 → cs_lay G (upd g (16 * k + n) 0) op n' (cs_lay G (upd g (16 * k + n) 0) (some k) n' (va_up H n (G (16 * k + n)) n')) = cs_lay G g op n' (cs_lay G g (some k) n' (H n')) := fun n' hn' => by
    refine cs_lay_un (em n' hn') (fun k' hk' => ?_)
    have h1 := (j3 k' hk').2.2
    have : k' ≠ k := fun e => h1 (by rw [e])
    omega
  refine ⟨j1, j2, j3, j4, j5, j6, j7, j8, j9, ?_, ?_, ?_, ?_⟩
  · intro n' hn' h'
    rw [← j10 n' hn' h']
    exact cs_lay_un (eo n' hn') (fun k' hk' => by injection hk' with hk'; omega)
  · intro f' n' hf' hn' h' hz'
    rw [pk_un (by omega)]
    exact j11 f' n' hf' hn' h' hz'
  · intro n' hn' h'
    rw [eo n' hn']
    exact j12 n' hn' h'
  · intro n' hn'
    rw [em n' hn']
    exact j13 n' hn'
/-- nothing is left to move: the homes alone are the settled store -/
theorem cs_J_unmark {k : Nat} (J : cs_J L S D (some k) op pr H G g nd d z F) (h : ∀ n, n < 16 → g (16 * k + n) = 0) :
    cs_J L S D none op pr H G g nd d z F := by
  obtain ⟨j1, j2, j3, j4, j5, j6, j7, j8, j9, j10, j11, j12, j13⟩ := J
  have em : ∀ n', n' < 16 → cs_lay G g none n' (H n') = cs_lay G g (some k) n' (H n') := fun n' hn' => (cs_lay_t (h n' hn')).symm
  refine ⟨j1, (fun k hk => absurd hk.symm (Option.some_ne_none k)), (fun k' hk' => ⟨(j3 k' hk').1, (j3 k' hk').2.1, fun z => absurd z.symm (Option.some_ne_none k')⟩), j4, j5, j6, j7, j8, j9, ?_, j11, ?_, ?_⟩
  · intro n' hn' h'
    rw [em n' hn']
    exact j10 n' hn' h'
  · intro n' hn' h'
    rw [em n' hn']
    exact j12 n' hn' h'
  · intro n' hn'
    rw [em n' hn']
    exact j13 n' hn'
/-- a snapshot is taken -/
theorem cs_J_snap (J : cs_J L S D mk none pr H G g nd d z F) {pr' : Nat} {g' z' : Nat → Int32} (h3 : pr' < 3) (hm : mk ≠ some pr') (hp : pr' ≠ pr) (hg0 : ∀ n, n < 16 → g' (16 * pr' + n) = 0) (hg : ∀ k n, k ≠ pr' → n < 16 → g' (16 * k + n) = g (16 * k + n)) (hz : ∀ f, f < 5 → z' f = d f) :
    cs_J L L D mk (some pr) pr' H G g' nd d z' F := by
  obtain ⟨j1, j2, j3, j4, j5, j6, j7, j8, j9, j10, j11, j12, j13⟩ := J
  have em : ∀ n', n' < 16 → cs_lay G g' mk n' (H n') = cs_lay G g mk n' (H n') := fun n' hn' =>
    cs_lay_c rfl (fun k' hk' => ⟨hg k' n' (fun e => hm (by rw [hk', e])) hn', rfl⟩)
  have eo : ∀ n', n' < 16 → cs_lay G g' (some pr) n' (cs_lay G g' mk n' (H n')) = cs_lay G g (some pr) n' (cs_lay G g none n' (cs_lay G g mk n' (H n'))) := fun n' hn' =>
    cs_lay_c (em n' hn') (fun k' hk' => by
      injection hk' with hk'
      exact ⟨hg k' n' (by omega) hn', rfl⟩)
  refine ⟨h3, ?_, ?_, j4, j5, j6, ?_, j8, j9, ?_, ?_, ?_, ?_⟩
  · intro k hk
    exact ⟨(j2 k hk).1, fun e => hm (by rw [hk, e])⟩
  · intro k hk
    injection hk with hk
    subst hk
    exact ⟨j1, fun e => hp e.symm, fun e => (j2 pr e).2 rfl⟩
  · intro f hf h'
    rw [hz f hf] at h'
    exact ⟨h', pr, rfl⟩
  · intro n' hn' h'
    rw [cs_lay_t (hg0 n' hn'), eo n' hn']
    exact j10 n' hn' h'
  · intro f' n' hf' hn' h' hz'
    exact ⟨hg0 n' hn', rfl⟩
  · intro n' hn' h'
    rw [eo n' hn']
    refine j10 n' hn' (fun f hf hh => ?_)
    rw [← hz f hf]
    exact h' f hf hh
  · intro n' hn'
    rw [em n' hn']
    exact j13 n' hn'
/-- the snapshot is settled -/
theorem cs_J_settle {k : Nat} (J : cs_J L S D mk (some k) pr H G g nd d z F) (hz : ∀ f, f < 5 → z f = 0) (hh : ∀ n, n < 16 → cs_lay G g mk n (H n) = H n) :
    cs_J L S S (some k) none pr H G g nd d z F := by
  obtain ⟨j1, j2, j3, j4, j5, j6, j7, j8, j9, j10, j11, j12, j13⟩ := J
  have eo : ∀ n', n' < 16 → cs_lay G g (some k) n' (H n') = cs_lay G g (some k) n' (cs_lay G g mk n' (H n')) := fun n' hn' => by
    rw [hh n' hn']
  refine ⟨j1, ?_, (fun k hk => absurd hk.symm (Option.some_ne_none k)), j4, j5, j6, ?_, j8, j9, ?_, ?_, ?_, ?_⟩
  · intro k' hk'
    injection hk' with hk'
    subst hk'
    exact ⟨(j3 k rfl).1, (j3 k rfl).2.1⟩
  · intro f hf h'
    exact absurd (hz f hf) h'
  · intro n' hn' h'
    rw [← j10 n' hn' h', ← eo n' hn']
    rfl
  · intro f' n' hf' hn' h' hz'
    exact absurd (hz f' hf') hz'
  · intro n' hn' h'
    rw [← j12 n' hn' h', ← eo n' hn']
    rfl
  · intro n' hn'
    rw [eo n' hn']
    exact j12 n' hn' (fun f hf _ => hz f hf)
/-- starting from what is on disk -/
theorem cs_J_restart {pr' : Nat} {g' : Nat → Int32} (h3 : pr' < 3) (hmk : ∀ k, mk = some k → k < 3) (hD : ∀ n, n < 16 → cs_lay G g mk n (H n) = D n) (hm : mk ≠ some pr') (hg0 : ∀ n, n < 16 → g' (16 * pr' + n) = 0) (hg : ∀ k n, k ≠ pr' → n < 16 → g' (16 * k + n) = g (16 * k + n)) (hn : ∀ f, f < 5 → nd f = -1) (hd : ∀ f, f < 5 → d f = 0) (hz : ∀ f, f < 5 → z f = 0) :
    cs_J D D D mk none pr' H G g' nd d z F := by
  have em : ∀ n', n' < 16 → cs_lay G g' mk n' (H n') = D n' := fun n' hn' => by
    rw [← hD n' hn']
    exact cs_lay_c rfl (fun k' hk' => ⟨hg k' n' (fun e => hm (by rw [hk', e])) hn', rfl⟩)
  have nf : ∀ f n, f < 5 → n < 16 → nd f ≠ nI n := fun f n hf hn' e => by
    rw [hn f hf] at e
    exact cs_m1 (by omega) e.symm
  refine ⟨h3, ?_, (fun k hk => absurd hk.symm (Option.some_ne_none k)), (fun f hf => Or.inl (hn f hf)), ?_, (fun f hf => Or.inl (hd f hf)), ?_, ?_, ?_, ?_, ?_, ?_, em⟩
  · intro k hk
    exact ⟨hmk k hk, fun e => hm (by rw [hk, e])⟩
  · intro f f' n hf hf' hn' e
    exact absurd e (nf f n hf hn')
  · intro f hf h'
    exact absurd (hz f hf) h'
  · intro f hf h'
    exact absurd (hd f hf) h'
  · intro f n hf hn' e
    exact absurd e (nf f n hf hn')
  · intro n' hn' h'
    rw [cs_lay_t (hg0 n' hn'), ← em n' hn']
    rfl
  · intro f n hf hn' e
    exact absurd e (nf f n hf hn')
  · intro n' hn' h'
    rw [← em n' hn']
    rfl
end
end
section
theorem cs_uc {f : Nat → Int32} {k : Nat} {x : Int32} (h : k < 1000) : upd f (nI k).toNatClampNeg x = upd f k x := by rw [nI_clamp (by omega)]
theorem cs_uc2 {f f' : Nat → Int32} {k k' : Nat} (h : k < 1000) (h' : k' < 1000) : upd f (nI k).toNatClampNeg (f' (nI k').toNatClampNeg) = upd f k (f' k') := by rw [nI_clamp (by omega), nI_clamp (by omega)]
theorem cs_w_save39 {post : St1 → Prop} {m h o p : Int32} {a1 a2 a3 a4 a5 a6 a7 a8 a9 a10 a11 a12 a13 a14 a15 a16 : Nat → Int32} {f e : Nat} (hf : f < 5) (he : e < 48)
    (H : post (m, h, o, p, a1, a2, a3, a4, va_cpy a13 a5 (4 * f) (4 * e) 4, va_cpy a14 a6 (4 * f) (4 * e) 4, va_cpy a15 a7 (4 * f) (4 * e) 4, a8, a9, a10, a11, a12, a13, a14, a15, a16)) :
    ∃ n, wX_save_39 post (nI f) (nI e) m h o p n 0 a1 a2 a3 a4 a5 a6 a7 a8 a9 a10 a11 a12 a13 a14 a15 a16 :=
  pk_loop (fun n i (s : (Nat → Int32) × (Nat → Int32) × (Nat → Int32)) => wX_save_39 post (nI f) (nI e) m h o p n (nI i) a1 a2 a3 a4 s.1 s.2.1 s.2.2 a8 a9 a10 a11 a12 a13 a14 a15 a16)
    (fun i s => s = (va_cpy a13 a5 (4 * f) (4 * e) i, va_cpy a14 a6 (4 * f) (4 * e) i, va_cpy a15 a7 (4 * f) (4 * e) i)) 4 0 (a5, a6, a7) (by omega) (by rw [cs_cpy_0, cs_cpy_0, cs_cpy_0])
    (fun n s h => pk_le 4 4 (fun _ => by subst h; exact H) (fun z => absurd z (by omega)))
    (fun n i s hi h hw => by
      subst h
      exact pk_le 4 i (fun z => absurd z (by omega)) (fun _ => ⟨pk_in (4 * f + i) 20 (by omega) (cs_4 f i), pk_in (4 * e + i) 192 (by omega) (cs_4 e i), nm_r (cs_st (by omega) (by omega) hi) ⟨pk_in (4 * f + i) 20 (by omega) (cs_4 f i), pk_in (4 * e + i) 192 (by omega) (cs_4 e i), nm_r (cs_st (by omega) (by omega) hi) ⟨pk_in (4 * f + i) 20 (by omega) (cs_4 f i), pk_in (4 * e + i) 192 (by omega) (cs_4 e i), nm_r (cs_st (by omega) (by omega) hi) (nm_r (nI_1 i) (hw _ rfl))⟩⟩⟩))
theorem cs_w_save {post : St1 → Prop} {m h o p : Int32} {a1 a2 a3 a4 a5 a6 a7 a8 a9 a10 a11 a12 a13 a14 a15 a16 : Nat → Int32} {f k n : Nat} (hf : f < 5) (hk : k < 3) (hn : n < 16) (hnd : a10 f = nI n)
    (H : post (m, h, o, p, a1, a2, a3, a4, va_cpy a13 a5 (4 * f) (4 * (16 * k + n)) 4, va_cpy a14 a6 (4 * f) (4 * (16 * k + n)) 4, va_cpy a15 a7 (4 * f) (4 * (16 * k + n)) 4, upd a8 (16 * k + n) (a16 f), upd a9 (16 * k + n) 1, a10, a11, a12, a13, a14, a15, a16)) :
    wpX_save post (m, h, o, p, a1, a2, a3, a4, a5, a6, a7, a8, a9, a10, a11, a12, a13, a14, a15, a16) (nI f) (nI k) := by
  have e1 : a10 (nI f).toNatClampNeg = nI n := by rw [nI_clamp (by omega)]; exact hnd
  refine ⟨pk_in f 5 hf, nm_r e1 (nm_r (cs_16 k n) ⟨pk_in (16 * k + n) 48 (by omega), ?_⟩)⟩
  refine nm_r (cs_uc (by omega)) ⟨pk_in f 5 hf, pk_in (16 * k + n) 48 (by omega), ?_⟩
  exact nm_r (cs_uc2 (by omega) (by omega)) (cs_w_save39 hf (by omega) H)
theorem cs_w_lh14 {post : St1 → Prop} {m h o p : Int32} {a1 a2 a3 a4 a5 a6 a7 a8 a9 a10 a11 a12 a13 a14 a15 a16 : Nat → Int32} {f e : Nat} (hf : f < 5) (he : e < 16)
    (H : post (m, h, o, p, a1, a2, a3, a4, a5, a6, a7, a8, a9, a10, a11, a12, va_cpy a1 a13 (4 * e) (4 * f) 4, va_cpy a2 a14 (4 * e) (4 * f) 4, va_cpy a3 a15 (4 * e) (4 * f) 4, a16)) :
    ∃ n, wX_loadHome_14 post (nI f) (nI e) m h o p n 0 a1 a2 a3 a4 a5 a6 a7 a8 a9 a10 a11 a12 a13 a14 a15 a16 :=
  pk_loop (fun n i (s : (Nat → Int32) × (Nat → Int32) × (Nat → Int32)) => wX_loadHome_14 post (nI f) (nI e) m h o p n (nI i) a1 a2 a3 a4 a5 a6 a7 a8 a9 a10 a11 a12 s.1 s.2.1 s.2.2 a16)
    (fun i s => s = (va_cpy a1 a13 (4 * e) (4 * f) i, va_cpy a2 a14 (4 * e) (4 * f) i, va_cpy a3 a15 (4 * e) (4 * f) i)) 4 0 (a13, a14, a15) (by omega) (by rw [cs_cpy_0, cs_cpy_0, cs_cpy_0])
    (fun n s h => pk_le 4 4 (fun _ => by subst h; exact H) (fun z => absurd z (by omega)))
    (fun n i s hi h hw => by
      subst h
      exact pk_le 4 i (fun z => absurd z (by omega)) (fun _ => ⟨pk_in (4 * e + i) 64 (by omega) (cs_4 e i), pk_in (4 * f + i) 20 (by omega) (cs_4 f i), nm_r (cs_st (by omega) (by omega) hi) ⟨pk_in (4 * e + i) 64 (by omega) (cs_4 e i), pk_in (4 * f + i) 20 (by omega) (cs_4 f i), nm_r (cs_st (by omega) (by omega) hi) ⟨pk_in (4 * e + i) 64 (by omega) (cs_4 e i), pk_in (4 * f + i) 20 (by omega) (cs_4 f i), nm_r (cs_st (by omega) (by omega) hi) (nm_r (nI_1 i) (hw _ rfl))⟩⟩⟩))
theorem cs_w_loadHome {post : St1 → Prop} {m h o p : Int32} {a1 a2 a3 a4 a5 a6 a7 a8 a9 a10 a11 a12 a13 a14 a15 a16 : Nat → Int32} {f e : Nat} (hf : f < 5) (he : e < 16)
    (H : post (m, h, o, p, a1, a2, a3, a4, a5, a6, a7, a8, a9, a10, a11, a12, va_cpy a1 a13 (4 * e) (4 * f) 4, va_cpy a2 a14 (4 * e) (4 * f) 4, va_cpy a3 a15 (4 * e) (4 * f) 4, upd a16 f (a4 e))) :
    wpX_loadHome post (m, h, o, p, a1, a2, a3, a4, a5, a6, a7, a8, a9, a10, a11, a12, a13, a14, a15, a16) (nI f) (nI e) :=
  ⟨pk_in e 16 he, pk_in f 5 hf, nm_r (cs_uc2 (by omega) (by omega)) (cs_w_lh14 hf he H)⟩
theorem cs_w_load62 {post : St1 → Prop} {m h o p : Int32} {a1 a2 a3 a4 a5 a6 a7 a8 a9 a10 a11 a12 a13 a14 a15 a16 : Nat → Int32} {f e : Nat} (hf : f < 5) (he : e < 48)
    (H : post (m, h, o, p, a1, a2, a3, a4, a5, a6, a7, a8, a9, a10, a11, a12, va_cpy a5 a13 (4 * e) (4 * f) 4, va_cpy a6 a14 (4 * e) (4 * f) 4, va_cpy a7 a15 (4 * e) (4 * f) 4, a16)) :
    ∃ n, wX_load_62 post (nI f) (nI e) m h o p n 0 a1 a2 a3 a4 a5 a6 a7 a8 a9 a10 a11 a12 a13 a14 a15 a16 :=
  pk_loop (fun n i (s : (Nat → Int32) × (Nat → Int32) × (Nat → Int32)) => wX_load_62 post (nI f) (nI e) m h o p n (nI i) a1 a2 a3 a4 a5 a6 a7 a8 a9 a10 a11 a12 s.1 s.2.1 s.2.2 a16)
    (fun i s => s = (va_cpy a5 a13 (4 * e) (4 * f) i, va_cpy a6 a14 (4 * e) (4 * f) i, va_cpy a7 a15 (4 * e) (4 * f) i)) 4 0 (a13, a14, a15) (by omega) (by rw [cs_cpy_0, cs_cpy_0, cs_cpy_0])
    (fun n s h => pk_le 4 4 (fun _ => by subst h; exact H) (fun z => absurd z (by omega)))
    (fun n i s hi h hw => by
      subst h
      exact pk_le 4 i (fun z => absurd z (by omega)) (fun _ => ⟨pk_in (4 * e + i) 192 (by omega) (cs_4 e i), pk_in (4 * f + i) 20 (by omega) (cs_4 f i), nm_r (cs_st (by omega) (by omega) hi) ⟨pk_in (4 * e + i) 192 (by omega) (cs_4 e i), pk_in (4 * f + i) 20 (by omega) (cs_4 f i), nm_r (cs_st (by omega) (by omega) hi) ⟨pk_in (4 * e + i) 192 (by omega) (cs_4 e i), pk_in (4 * f + i) 20 (by omega) (cs_4 f i), nm_r (cs_st (by omega) (by omega) hi) (nm_r (nI_1 i) (hw _ rfl))⟩⟩⟩))
theorem cs_w_ch14 {post : St1 → Prop} {m h o p : Int32} {a1 a2 a3 a4 a5 a6 a7 a8 a9 a10 a11 a12 a13 a14 a15 a16 : Nat → Int32} {e n : Nat} (he : e < 48) (hn : n < 16)
    (H : post (m, h, o, p, va_cpy a5 a1 (4 * e) (4 * n) 4, va_cpy a6 a2 (4 * e) (4 * n) 4, va_cpy a7 a3 (4 * e) (4 * n) 4, a4, a5, a6, a7, a8, a9, a10, a11, a12, a13, a14, a15, a16)) :
    ∃ q, wX_copyHome_14 post (nI e) (nI n) m h o p q 0 a1 a2 a3 a4 a5 a6 a7 a8 a9 a10 a11 a12 a13 a14 a15 a16 :=
  pk_loop (fun q i (s : (Nat → Int32) × (Nat → Int32) × (Nat → Int32)) => wX_copyHome_14 post (nI e) (nI n) m h o p q (nI i) s.1 s.2.1 s.2.2 a4 a5 a6 a7 a8 a9 a10 a11 a12 a13 a14 a15 a16)
    (fun i s => s = (va_cpy a5 a1 (4 * e) (4 * n) i, va_cpy a6 a2 (4 * e) (4 * n) i, va_cpy a7 a3 (4 * e) (4 * n) i)) 4 0 (a1, a2, a3) (by omega) (by rw [cs_cpy_0, cs_cpy_0, cs_cpy_0])
    (fun q s h => pk_le 4 4 (fun _ => by subst h; exact H) (fun z => absurd z (by omega)))
    (fun q i s hi h hw => by
      subst h
      exact pk_le 4 i (fun z => absurd z (by omega)) (fun _ => ⟨pk_in (4 * e + i) 192 (by omega) (cs_4 e i), pk_in (4 * n + i) 64 (by omega) (cs_4 n i), nm_r (cs_st (by omega) (by omega) hi) ⟨pk_in (4 * e + i) 192 (by omega) (cs_4 e i), pk_in (4 * n + i) 64 (by omega) (cs_4 n i), nm_r (cs_st (by omega) (by omega) hi) ⟨pk_in (4 * e + i) 192 (by omega) (cs_4 e i), pk_in (4 * n + i) 64 (by omega) (cs_4 n i), nm_r (cs_st (by omega) (by omega) hi) (nm_r (nI_1 i) (hw _ rfl))⟩⟩⟩))
theorem cs_w_copyHome {post : St1 → Prop} {m h o p : Int32} {a1 a2 a3 a4 a5 a6 a7 a8 a9 a10 a11 a12 a13 a14 a15 a16 : Nat → Int32} {e n : Nat} (he : e < 48) (hn : n < 16)
    (H : post (m, h, o, p, va_cpy a5 a1 (4 * e) (4 * n) 4, va_cpy a6 a2 (4 * e) (4 * n) 4, va_cpy a7 a3 (4 * e) (4 * n) 4, upd a4 n (a8 e), a5, a6, a7, a8, a9, a10, a11, a12, a13, a14, a15, a16)) :
    wpX_copyHome post (m, h, o, p, a1, a2, a3, a4, a5, a6, a7, a8, a9, a10, a11, a12, a13, a14, a15, a16) (nI e) (nI n) :=
  ⟨pk_in e 48 he, pk_in n 16 hn, nm_r (cs_uc2 (by omega) (by omega)) (cs_w_ch14 he hn H)⟩
theorem cs_w_clear {post : St1 → Prop} {m h o p : Int32} {a1 a2 a3 a4 a5 a6 a7 a8 a9 a10 a11 a12 a13 a14 a15 a16 : Nat → Int32} {k : Nat} (hk : k < 3)
    (H : ∀ g', (∀ n, n < 16 → g' (16 * k + n) = 0) → (∀ k' n, k' ≠ k → n < 16 → g' (16 * k' + n) = a9 (16 * k' + n)) → post (m, h, o, p, a1, a2, a3, a4, a5, a6, a7, a8, g', a10, a11, a12, a13, a14, a15, a16)) :
    wpX_clearLog post (m, h, o, p, a1, a2, a3, a4, a5, a6, a7, a8, a9, a10, a11, a12, a13, a14, a15, a16) (nI k) :=
  pk_loop (fun n i (s : Nat → Int32) => wX_clearLog_2 post (nI k) m h o p n (nI i) a1 a2 a3 a4 a5 a6 a7 a8 s a10 a11 a12 a13 a14 a15 a16)
    (fun i s => (∀ n, n < i → s (16 * k + n) = 0) ∧ (∀ k' n, k' ≠ k → n < 16 → s (16 * k' + n) = a9 (16 * k' + n))) 16 0 a9 (by omega) ⟨fun n hn => absurd hn (by omega), fun _ _ _ _ => rfl⟩
    (fun n s h => pk_le 16 16 (fun _ => H s h.1 h.2) (fun z => absurd z (by omega)))
    (fun n i s hi h hw => by
      refine pk_le 16 i (fun z => absurd z (by omega)) (fun _ => ⟨pk_in (16 * k + i) 48 (by omega) (cs_16 k i), ?_⟩)
      have e1 : upd s ((16 : Int32) * nI k + nI i).toNatClampNeg 0 = upd s (16 * k + i) 0 := by rw [cs_16, nI_clamp (by omega)]
      refine nm_r e1 (nm_r (nI_1 i) (hw _ ⟨fun n hn => ?_, fun k' n hk' hn => ?_⟩))
      · by_cases e : n = i
        · rw [e, pk_us]
        · rw [pk_un (by omega)]; exact h.1 n (by omega)
      · rw [pk_un (by omega)]; exact h.2 k' n hk' hn)
theorem cs_w_un {post : Int32 → Prop} {m h o p : Int32} {a1 a2 a3 a4 a5 a6 a7 a8 a9 a10 a11 a12 a13 a14 a15 a16 : Nat → Int32} {n i : Nat} (hi : i < 3) (h1 : nI i ≠ m → nI i ≠ o → post (nI i)) (h2 : nI i = m ∨ nI i = o → wX_unusedLog_2 post m h o p a1 a2 a3 a4 a5 a6 a7 a8 a9 a10 a11 a12 a13 a14 a15 a16 n (nI (i + 1))) : wX_unusedLog_2 post m h o p a1 a2 a3 a4 a5 a6 a7 a8 a9 a10 a11 a12 a13 a14 a15 a16 (n + 1) (nI i) :=
  pk_le 3 i (fun z => absurd z (by omega)) (fun _ => br_c (fun e => nm_r (nI_1 i) (h2 (Or.inl e))) (fun e => br_c (fun e2 => nm_r (nI_1 i) (h2 (Or.inr e2))) (fun e2 => h1 e e2)))
theorem cs_w_unused {post : Int32 → Prop} {m h o p : Int32} {a1 a2 a3 a4 a5 a6 a7 a8 a9 a10 a11 a12 a13 a14 a15 a16 : Nat → Int32} (H : ∀ r, r < 3 → nI r ≠ m → nI r ≠ o → post (nI r)) : wpX_unusedLog post (m, h, o, p, a1, a2, a3, a4, a5, a6, a7, a8, a9, a10, a11, a12, a13, a14, a15, a16) := by
  refine ⟨4, cs_w_un (i := 0) (by omega) (H 0 (by omega)) (fun h0 => cs_w_un (i := 1) (by omega) (H 1 (by omega)) (fun h1 => cs_w_un (i := 2) (by omega) (H 2 (by omega)) (fun h2 => ?_)))⟩
  have n01 : ¬ nI 0 = nI 1 := by decide
  have n02 : ¬ nI 0 = nI 2 := by decide
  have n12 : ¬ nI 1 = nI 2 := by decide
  rcases h0 with h0 | h0 <;> rcases h1 with h1 | h1 <;> rcases h2 with h2 | h2
  all_goals first
    | exact absurd (h0.trans h1.symm) n01
    | exact absurd (h0.trans h2.symm) n02
    | exact absurd (h1.trans h2.symm) n12
theorem cs_w_newest {post : Int32 → Prop} {m h o p : Int32} {a1 a2 a3 a4 a5 a6 a7 a8 a9 a10 a11 a12 a13 a14 a15 a16 : Nat → Int32} {mk op : Option Nat} {pr n : Nat} {H G : cs_M} {c : cs_C} (hn : n < 16) (hm : m = cs_e mk) (ho : o = cs_e op) (hp : p = nI pr) (h1 : pr < 3) (h2 : ∀ k, mk = some k → k < 3) (h3 : ∀ k, op = some k → k < 3)
    (hN : cs_lay G a9 (some pr) n (cs_lay G a9 op n (cs_lay G a9 mk n (H n))) = c) (P1 : ∀ k, k < 3 → G (16 * k + n) = c → post (nI k)) (P0 : H n = c → post (-1)) :
    wpX_newestLog post (m, h, o, p, a1, a2, a3, a4, a5, a6, a7, a8, a9, a10, a11, a12, a13, a14, a15, a16) (nI n) := by
  have hin : ∀ k, k < 3 → vp_in ((16 : Int32) * nI k + nI n) 48 := fun k hk => pk_in (16 * k + n) 48 (by omega) (cs_16 k n)
  have hcl : ∀ k, k < 3 → ((16 : Int32) * nI k + nI n).toNatClampNeg = 16 * k + n := fun k hk => by rw [cs_16]; exact nI_clamp (by omega)
  have h51 : cs_lay G a9 mk n (H n) = c → wX_newestLog_51 post (nI n) m h o p a1 a2 a3 a4 a5 a6 a7 a8 a9 a10 a11 a12 a13 a14 a15 a16 := by
    intro hc
    cases mk with
    | none =>
      have hm' : m = -1 := hm
      subst hm'
      exact br_t cs_neg (P0 hc)
    | some k =>
      have hm' : m = nI k := hm
      subst hm'
      have hk := h2 k rfl
      refine br_f (nI_pos (by omega)) ⟨hin k hk, ?_⟩
      by_cases e : a9 (16 * k + n) = 0
      · rw [cs_lay_t e] at hc
        exact br_t (by rw [hcl k hk]; exact e) (P0 hc)
      · rw [cs_lay_f e] at hc
        exact br_f (by rw [hcl k hk]; exact e) (P1 k hk hc)
  subst hp
  refine ⟨hin pr h1, ?_⟩
  by_cases e : a9 (16 * pr + n) = 0
  · rw [cs_lay_t e] at hN
    refine br_t (by rw [hcl pr h1]; exact e) ?_
    cases op with
    | none =>
      have ho' : o = -1 := ho
      subst ho'
      exact br_t cs_neg (h51 hN)
    | some k =>
      have ho' : o = nI k := ho
      subst ho'
      have hk := h3 k rfl
      refine br_f (nI_pos (by omega)) ⟨hin k hk, ?_⟩
      by_cases e2 : a9 (16 * k + n) = 0
      · rw [cs_lay_t e2] at hN
        exact br_t (by rw [hcl k hk]; exact e2) (h51 hN)
      · rw [cs_lay_f e2] at hN
        exact br_f (by rw [hcl k hk]; exact e2) (P1 k hk hN)
  · rw [cs_lay_f e] at hN
    exact br_f (by rw [hcl pr h1]; exact e) (P1 pr h1 hN)
theorem cs_w_restart {post : St1 → Prop} {m h o p : Int32} {a1 a2 a3 a4 a5 a6 a7 a8 a9 a10 a11 a12 a13 a14 a15 a16 : Nat → Int32}
    (H : ∀ r g' n' d' z', r < 3 → nI r ≠ m → (∀ n, n < 16 → g' (16 * r + n) = 0) → (∀ k' n, k' ≠ r → n < 16 → g' (16 * k' + n) = a9 (16 * k' + n)) → (∀ f, f < 5 → n' f = -1) → (∀ f, f < 5 → d' f = 0) → (∀ f, f < 5 → z' f = 0) → post (m, 0, -1, nI r, a1, a2, a3, a4, a5, a6, a7, a8, g', n', d', z', a13, a14, a15, a16)) :
    wpX_restart post (m, h, o, p, a1, a2, a3, a4, a5, a6, a7, a8, a9, a10, a11, a12, a13, a14, a15, a16) :=
  pk_loop (fun n i (s : (Nat → Int32) × (Nat → Int32) × (Nat → Int32)) => wX_restart_2 post m h o p n (nI i) a1 a2 a3 a4 a5 a6 a7 a8 a9 s.1 s.2.1 s.2.2 a13 a14 a15 a16)
    (fun i s => (∀ f, f < i → s.1 f = -1) ∧ (∀ f, f < i → s.2.1 f = 0) ∧ (∀ f, f < i → s.2.2 f = 0)) 5 0 (a10, a11, a12) (by omega) ⟨fun n hn => absurd hn (by omega), fun n hn => absurd hn (by omega), fun n hn => absurd hn (by omega)⟩
    (fun n s h => pk_le 5 5 (fun _ => cs_w_unused (fun r hr hm ho => cs_w_clear hr (fun g' q1 q2 => H r g' s.1 s.2.1 s.2.2 hr hm q1 q2 h.1 h.2.1 h.2.2))) (fun z => absurd z (by omega)))
    (fun n i s hi h hw => by
      have key : ∀ (q : Nat → Int32) (v : Int32), (∀ f, f < i → q f = v) → ∀ f, f < i + 1 → upd q i v f = v := fun q v hq f hf => by
        by_cases e : f = i
        · rw [e, pk_us]
        · rw [pk_un e]; exact hq f (by omega)
      refine pk_le 5 i (fun z => absurd z (by omega)) (fun _ => ⟨pk_in i 5 hi, nm_r (cs_uc (by omega)) ⟨pk_in i 5 hi, nm_r (cs_uc (by omega)) ⟨pk_in i 5 hi, nm_r (cs_uc (by omega)) (nm_r (nI_1 i) (hw (_, _, _) ?_))⟩⟩⟩)
      exact ⟨key _ _ h.1, key _ _ h.2.1, key _ _ h.2.2⟩)
end
section
/-- the state u holds the picture L, S, D; b: is there a snapshot not yet settled -/
def cs_K (b : Bool) (L S D : cs_M) (u : St1) : Prop := match u with
  | (m, h, o, p, a1, a2, a3, a4, a5, a6, a7, a8, a9, a10, a11, a12, a13, a14, a15, a16) => ∃ (mk op : Option Nat) (pr hd : Nat), hd < 5 ∧ m = cs_e mk ∧ h = nI hd ∧ o = cs_e op ∧ p = nI pr ∧ op.isSome = b ∧ cs_J L S D mk op pr (cs_c a1 a2 a3 a4) (cs_c a5 a6 a7 a8) a9 a10 a11 a12 (cs_c a13 a14 a15 a16)
/-- frame f holds node n -/
def cs_at (f n : Nat) (u : St1) : Prop := match u with
  | (m, h, o, p, a1, a2, a3, a4, a5, a6, a7, a8, a9, a10, a11, a12, a13, a14, a15, a16) => a10 f = nI n
section
variable {b : Bool} {L S D : cs_M} {m h o p : Int32} {a1 a2 a3 a4 a5 a6 a7 a8 a9 a10 a11 a12 a13 a14 a15 a16 : Nat → Int32} {f n : Nat}
theorem cs_K_F (K : cs_K b L S D (m, h, o, p, a1, a2, a3, a4, a5, a6, a7, a8, a9, a10, a11, a12, a13, a14, a15, a16)) (hf : f < 5) (hn : n < 16) (he : a10 f = nI n) : cs_c a13 a14 a15 a16 f = L n := by
  obtain ⟨mk, op, pr, hd, hh, hm, hha, ho, hp, hb, J⟩ := K
  exact J.2.2.2.2.2.2.2.2.1 f n hf hn he
theorem cs_saveFrozen {post : St1 → Prop} (K : cs_K b L S D (m, h, o, p, a1, a2, a3, a4, a5, a6, a7, a8, a9, a10, a11, a12, a13, a14, a15, a16)) (hf : f < 5) (hz : a12 f ≠ 0)
    (H : ∀ b5 b6 b7 b8 b9, cs_K b L S D (m, h, o, p, a1, a2, a3, a4, b5, b6, b7, b8, b9, a10, upd a11 f 0, upd a12 f 0, a13, a14, a15, a16) → post (m, h, o, p, a1, a2, a3, a4, b5, b6, b7, b8, b9, a10, upd a11 f 0, upd a12 f 0, a13, a14, a15, a16)) :
    wpX_saveFrozen post (m, h, o, p, a1, a2, a3, a4, a5, a6, a7, a8, a9, a10, a11, a12, a13, a14, a15, a16) (nI f) := by
  obtain ⟨mk, op, pr, hd, hh, hm, hha, ho, hp, hb, J⟩ := K
  obtain ⟨n, k, hn, hk, hnd, hop, J'⟩ := cs_J_frz J hf hz
  subst hop
  have ho' : o = nI k := ho
  subst ho'
  unfold wpX_saveFrozen
  refine cs_w_save hf hk hn hnd ⟨pk_in f 5 hf, nm_r (cs_uc (by omega)) ⟨pk_in f 5 hf, nm_r (cs_uc (by omega)) (H _ _ _ _ _ ⟨mk, some k, pr, hd, hh, hm, hha, rfl, hp, hb, ?_⟩)⟩⟩
  rw [cs_copy]
  exact J'
theorem cs_evict {post : St1 → Prop} (K : cs_K b L S D (m, h, o, p, a1, a2, a3, a4, a5, a6, a7, a8, a9, a10, a11, a12, a13, a14, a15, a16)) (hf : f < 5)
    (H : ∀ b5 b6 b7 b8 b9 d' z', cs_K b L S D (m, h, o, p, a1, a2, a3, a4, b5, b6, b7, b8, b9, upd a10 f (-1), d', z', a13, a14, a15, a16) → post (m, h, o, p, a1, a2, a3, a4, b5, b6, b7, b8, b9, upd a10 f (-1), d', z', a13, a14, a15, a16)) :
    wpX_evict post (m, h, o, p, a1, a2, a3, a4, a5, a6, a7, a8, a9, a10, a11, a12, a13, a14, a15, a16) (nI f) := by
  have hc : (nI f).toNatClampNeg = f := nI_clamp (by omega)
  have K0 := K
  obtain ⟨mk, op, pr, hd, hh, hm, hha, ho, hp, hb, J⟩ := K
  refine ⟨pk_in f 5 hf, br_c (fun hlt => ?_) (fun hge => ⟨pk_in f 5 hf, br_c (fun h0 => ?_) (fun h1 => ⟨pk_in f 5 hf, br_c (fun hz => ?_) (fun hz => ?_)⟩)⟩)⟩
  · rw [hc] at hlt
    have hd0 : a11 f = 0 := Decidable.byContradiction (fun h1 => by
      obtain ⟨n, hn, e⟩ := (J.2.2.2.1 f hf).resolve_left (J.2.2.2.2.2.2.2.1 f hf h1)
      rw [e] at hlt
      exact nI_pos (by omega) hlt)
    exact ⟨pk_in f 5 hf, nm_r (cs_uc (by omega)) (H _ _ _ _ _ _ _ ⟨mk, op, pr, hd, hh, hm, hha, ho, hp, hb, cs_J_drop J hf hd0⟩)⟩
  · rw [hc] at h0
    exact ⟨pk_in f 5 hf, nm_r (cs_uc (by omega)) (H _ _ _ _ _ _ _ ⟨mk, op, pr, hd, hh, hm, hha, ho, hp, hb, cs_J_drop J hf h0⟩)⟩
  · rw [hc] at hz h1
    obtain ⟨n, hn, hnd, J'⟩ := cs_J_sav J hf h1 hz
    subst hp
    refine cs_w_save hf J.1 hn hnd ⟨pk_in f 5 hf, nm_r (cs_uc (by omega)) ⟨pk_in f 5 hf, nm_r (cs_uc (by omega)) (H _ _ _ _ _ _ _ ⟨mk, op, pr, hd, hh, hm, hha, ho, rfl, hb, ?_⟩)⟩⟩
    rw [cs_copy]
    exact cs_J_drop J' hf pk_us
  · rw [hc] at hz
    refine cs_saveFrozen K0 hf hz (fun b5 b6 b7 b8 b9 K' => ⟨pk_in f 5 hf, nm_r (cs_uc (by omega)) (H b5 b6 b7 b8 b9 _ _ ?_)⟩)
    obtain ⟨mk', op', pr', hd', hh', hm', hha', ho', hp', hb', J'⟩ := K'
    exact ⟨mk', op', pr', hd', hh', hm', hha', ho', hp', hb', cs_J_drop J' hf pk_us⟩
theorem cs_load {post : St1 → Prop} (K : cs_K b L S D (m, h, o, p, a1, a2, a3, a4, a5, a6, a7, a8, a9, a10, a11, a12, a13, a14, a15, a16)) (hf : f < 5) (hn : n < 16) (he : a10 f = -1) (hno : ∀ f, f < 5 → a10 f ≠ nI n)
    (H : ∀ u', cs_K b L S D u' → cs_at f n u' → post u') : wpX_load post (m, h, o, p, a1, a2, a3, a4, a5, a6, a7, a8, a9, a10, a11, a12, a13, a14, a15, a16) (nI f) (nI n) := by
  obtain ⟨mk, op, pr, hd, hh, hm, hha, ho, hp, hb, J⟩ := K
  have J' := cs_J_load J hf hn he hno
  have hnew := cs_J_new J hn hno
  refine ⟨pk_in f 5 hf, nm_r (cs_uc (by omega)) ⟨pk_in f 5 hf, nm_r (cs_uc (by omega)) ⟨pk_in f 5 hf, nm_r (cs_uc (by omega)) ?_⟩⟩⟩
  refine cs_w_newest hn hm ho hp J.1 (fun k hk => (J.2.1 k hk).1) (fun k hk => (J.2.2.1 k hk).1) hnew (fun k hk hc => ?_) (fun hc => ?_)
  · refine br_t (nI_pos' (by omega)) (nm_r (cs_16 k n) ⟨pk_in (16 * k + n) 48 (by omega), pk_in f 5 hf, nm_r (cs_uc2 (by omega) (by omega)) (cs_w_load62 hf (by omega) (H _ ⟨mk, op, pr, hd, hh, hm, hha, ho, hp, hb, ?_⟩ pk_us))⟩)
    rw [cs_copy, hc]
    exact J'
  · refine br_f cs_neg' (cs_w_loadHome hf hn (H _ ⟨mk, op, pr, hd, hh, hm, hha, ho, hp, hb, ?_⟩ pk_us))
    rw [cs_copy, hc]
    exact J'
theorem cs_ff49 {post : Int32 → St1 → Prop} (K : cs_K b L S D (m, h, o, p, a1, a2, a3, a4, a5, a6, a7, a8, a9, a10, a11, a12, a13, a14, a15, a16)) {z0 : Int32} {hd hd' : Nat} (hh : hd < 5) (hh' : hd' < 5) (hz : z0 = nI hd') (hn : n < 16) (hno : ∀ f, f < 5 → a10 f ≠ nI n)
    (H : ∀ f u', f < 5 → cs_K b L S D u' → cs_at f n u' → post (nI f) u') : wX_frameFor_49 post (nI n) (nI hd) z0 m h o p a1 a2 a3 a4 a5 a6 a7 a8 a9 a10 a11 a12 a13 a14 a15 a16 := by
  have K2 : cs_K b L S D (m, z0, o, p, a1, a2, a3, a4, a5, a6, a7, a8, a9, a10, a11, a12, a13, a14, a15, a16) := by
    obtain ⟨mk, op, pr, hd, hh, hm, hha, ho, hp, hb, J⟩ := K
    exact ⟨mk, op, pr, hd', hh', hm, hz, ho, hp, hb, J⟩
  unfold wX_frameFor_49
  refine cs_evict K2 hh (fun b5 b6 b7 b8 b9 d' z' K' => ?_)
  refine cs_load K' hh hn pk_us (fun f' hf' => ?_) (fun u' K3 hat => ?_)
  · by_cases e : f' = hd
    · rw [e, pk_us]; exact (cs_m1 (by omega)).symm
    · rw [pk_un e]; exact hno f' hf'
  · obtain ⟨xm, xh, xo, xp, xa1, xa2, xa3, xa4, xa5, xa6, xa7, xa8, xa9, xa10, xa11, xa12, xa13, xa14, xa15, xa16⟩ := u'
    exact H hd _ hh K3 hat
theorem cs_frameFor {post : Int32 → St1 → Prop} (K : cs_K b L S D (m, h, o, p, a1, a2, a3, a4, a5, a6, a7, a8, a9, a10, a11, a12, a13, a14, a15, a16)) (hn : n < 16)
    (H : ∀ f u', f < 5 → cs_K b L S D u' → cs_at f n u' → post (nI f) u') : wpX_frameFor post (m, h, o, p, a1, a2, a3, a4, a5, a6, a7, a8, a9, a10, a11, a12, a13, a14, a15, a16) (nI n) := by
  refine pk_loop (σ := Unit) (fun q i _ => wX_frameFor_2 post (nI n) m h o p a1 a2 a3 a4 a5 a6 a7 a8 a9 a10 a11 a12 a13 a14 a15 a16 q (nI i)) (fun i _ => ∀ j, j < i → a10 j ≠ nI n) 5 0 () (by omega) (fun j hj => absurd hj (by omega)) (fun q _ hno => ?_) (fun q i _ hi hno hw => ?_)
  · refine pk_le 5 5 (fun _ => ?_) (fun z => absurd z (by omega))
    have K0 := K
    obtain ⟨mk, op, pr, hd, hh, hm, hha, ho, hp, hb, J⟩ := K0
    subst hha
    refine pk_eq hd 4 (fun e => ?_) (fun e => ?_)
    · exact cs_ff49 K hh (hd' := 0) (by omega) rfl hn hno H
    · exact cs_ff49 K hh (hd' := hd + 1) (by omega) (nI_1 hd) hn hno H
  · refine pk_le 5 i (fun z => absurd z (by omega)) (fun _ => ⟨pk_in i 5 hi, ?_⟩)
    have hc : (nI i).toNatClampNeg = i := nI_clamp (by omega)
    refine br_c (fun e => H i _ hi K (by rw [hc] at e; exact e)) (fun e => nm_r (nI_1 i) (hw () (fun j hj => ?_)))
    rw [hc] at e
    by_cases ej : j = i
    · rw [ej]; exact e
    · exact hno j (by omega)
theorem cs_makeW {post : St1 → Prop} (K : cs_K b L S D (m, h, o, p, a1, a2, a3, a4, a5, a6, a7, a8, a9, a10, a11, a12, a13, a14, a15, a16)) (hf : f < 5) (hn : n < 16) (he : a10 f = nI n)
    (H : ∀ b5 b6 b7 b8 b9 d' z', cs_K b L S D (m, h, o, p, a1, a2, a3, a4, b5, b6, b7, b8, b9, a10, d', z', a13, a14, a15, a16) → d' f ≠ 0 → z' f = 0 → post (m, h, o, p, a1, a2, a3, a4, b5, b6, b7, b8, b9, a10, d', z', a13, a14, a15, a16)) :
    wpX_makeWritable post (m, h, o, p, a1, a2, a3, a4, a5, a6, a7, a8, a9, a10, a11, a12, a13, a14, a15, a16) (nI f) := by
  have hc : (nI f).toNatClampNeg = f := nI_clamp (by omega)
  have h1 : ∀ d : Nat → Int32, upd d f 1 f ≠ 0 := fun d => by rw [pk_us]; decide
  refine ⟨pk_in f 5 hf, br_c (fun hz => ?_) (fun hz => ?_)⟩
  · rw [hc] at hz
    obtain ⟨mk, op, pr, hd, hh, hm, hha, ho, hp, hb, J⟩ := K
    exact ⟨pk_in f 5 hf, nm_r (cs_uc (by omega)) (H _ _ _ _ _ _ _ ⟨mk, op, pr, hd, hh, hm, hha, ho, hp, hb, cs_J_dirty J hf hn he⟩ (h1 _) hz)⟩
  · rw [hc] at hz
    refine cs_saveFrozen K hf hz (fun b5 b6 b7 b8 b9 K' => ⟨pk_in f 5 hf, nm_r (cs_uc (by omega)) (H b5 b6 b7 b8 b9 _ _ ?_ (h1 _) pk_us)⟩)
    obtain ⟨mk, op, pr, hd, hh, hm, hha, ho, hp, hb, J⟩ := K'
    exact ⟨mk, op, pr, hd, hh, hm, hha, ho, hp, hb, cs_J_dirty J hf hn he⟩
theorem cs_w_put {post : St1 → Prop} (K : cs_K b L S D (m, h, o, p, a1, a2, a3, a4, a5, a6, a7, a8, a9, a10, a11, a12, a13, a14, a15, a16)) (hn : n < 16) (s : Fin 4) (v t q : Int32)
    (H : ∀ u', cs_K b (va_up L n (cs_put (L n) s v t q)) S D u' → post u') : wpX_put post (m, h, o, p, a1, a2, a3, a4, a5, a6, a7, a8, a9, a10, a11, a12, a13, a14, a15, a16) (nI n) (nI s.val) v t q := by
  have hs := s.isLt
  unfold wpX_put
  refine cs_frameFor K hn (fun f u' hf K' hat => ?_)
  obtain ⟨xm, xh, xo, xp, xa1, xa2, xa3, xa4, xa5, xa6, xa7, xa8, xa9, xa10, xa11, xa12, xa13, xa14, xa15, xa16⟩ := u'
  refine cs_makeW K' hf hn hat (fun b5 b6 b7 b8 b9 d' z' K2 hdt hz => ?_)
  have e : ∀ (r : Nat → Int32) (y : Int32), upd r ((4 : Int32) * nI f + nI s.val).toNatClampNeg y = upd r (4 * f + s.val) y := fun r y => by rw [cs_4, nI_clamp (by omega)]
  have hin : vp_in ((4 : Int32) * nI f + nI s.val) 20 := pk_in (4 * f + s.val) 20 (by omega) (cs_4 f s.val)
  refine ⟨hin, nm_r (e _ _) ⟨hin, nm_r (e _ _) ⟨hin, nm_r (e _ _) (H _ ?_)⟩⟩⟩
  have hF := cs_K_F K2 hf hn hat
  obtain ⟨mk, op, pr, hd, hh, hm, hha, ho, hp, hb, J⟩ := K2
  refine ⟨mk, op, pr, hd, hh, hm, hha, ho, hp, hb, ?_⟩
  rw [cs_upd, hF]
  exact cs_J_write J hf hn hat hdt hz _
theorem cs_versionOf {post : Int32 → St1 → Prop} (K : cs_K b L S D (m, h, o, p, a1, a2, a3, a4, a5, a6, a7, a8, a9, a10, a11, a12, a13, a14, a15, a16)) (hn : n < 16)
    (H : ∀ u', cs_K b L S D u' → post (L n).1 u') : wpX_versionOf post (m, h, o, p, a1, a2, a3, a4, a5, a6, a7, a8, a9, a10, a11, a12, a13, a14, a15, a16) (nI n) := by
  unfold wpX_versionOf
  refine cs_frameFor K hn (fun f u' hf K' hat => ?_)
  obtain ⟨xm, xh, xo, xp, xa1, xa2, xa3, xa4, xa5, xa6, xa7, xa8, xa9, xa10, xa11, xa12, xa13, xa14, xa15, xa16⟩ := u'
  have hF := cs_K_F K' hf hn hat
  have e : xa16 (nI f).toNatClampNeg = (L n).1 := by rw [nI_clamp (by omega), ← hF]; rfl
  exact ⟨pk_in f 5 hf, ek_v (P := fun r => post r (xm, xh, xo, xp, xa1, xa2, xa3, xa4, xa5, xa6, xa7, xa8, xa9, xa10, xa11, xa12, xa13, xa14, xa15, xa16)) e (H _ K')⟩
theorem cs_numberIn {post : Int32 → St1 → Prop} (K : cs_K b L S D (m, h, o, p, a1, a2, a3, a4, a5, a6, a7, a8, a9, a10, a11, a12, a13, a14, a15, a16)) (hn : n < 16) (s : Fin 4)
    (H : ∀ u', cs_K b L S D u' → post ((L n).2.1 s) u') : wpX_numberIn post (m, h, o, p, a1, a2, a3, a4, a5, a6, a7, a8, a9, a10, a11, a12, a13, a14, a15, a16) (nI n) (nI s.val) := by
  have hs := s.isLt
  unfold wpX_numberIn
  refine cs_frameFor K hn (fun f u' hf K' hat => ?_)
  obtain ⟨xm, xh, xo, xp, xa1, xa2, xa3, xa4, xa5, xa6, xa7, xa8, xa9, xa10, xa11, xa12, xa13, xa14, xa15, xa16⟩ := u'
  have hF := cs_K_F K' hf hn hat
  have e : xa13 ((4 : Int32) * nI f + nI s.val).toNatClampNeg = (L n).2.1 s := by rw [cs_4, nI_clamp (by omega), ← hF]; rfl
  exact ⟨pk_in (4 * f + s.val) 20 (by omega) (cs_4 f s.val), ek_v (P := fun r => post r (xm, xh, xo, xp, xa1, xa2, xa3, xa4, xa5, xa6, xa7, xa8, xa9, xa10, xa11, xa12, xa13, xa14, xa15, xa16)) e (H _ K')⟩
end
end
section
/-- the node to which the slot holds a live key, else -1 -/
def cs_lk (L : cs_M) (n : Nat) (s : Fin 4) : Int32 := if 0 ≤ (L n).2.2.1 s then (if (L ((L n).2.2.1 s).toNatClampNeg).1 = (L n).2.2.2 s then (L n).2.2.1 s else -1) else -1
/-- what key answers -/
def cs_kv (L : cs_M) (n : Nat) (s : Fin 4) : Int32 := if 0 ≤ cs_lk L n s then cs_lk L n s else -2
/-- a slot holds a number, or a key to a node and the number 0 -/
def cs_wf (L : cs_M) : Prop := ∀ n (s : Fin 4), n < 16 → (L n).2.2.1 s = -1 ∨ ((L n).2.1 s = 0 ∧ ∃ j, j < 16 ∧ (L n).2.2.1 s = nI j)
theorem cs_lk_neg {L : cs_M} {n : Nat} {s : Fin 4} (h : (L n).2.2.1 s = -1) : cs_lk L n s = -1 := by
  unfold cs_lk
  rw [if_neg (by rw [h]; decide)]
theorem cs_lk_j {L : cs_M} {n j : Nat} {s : Fin 4} (hj : j < 16) (h : (L n).2.2.1 s = nI j) : cs_lk L n s = if (L j).1 = (L n).2.2.2 s then nI j else -1 := by
  unfold cs_lk
  rw [h, if_pos (nI_pos' (by omega)), nI_clamp (by omega)]
theorem cs_lk_or {L : cs_M} (w : cs_wf L) {n : Nat} (s : Fin 4) (hn : n < 16) : cs_lk L n s = -1 ∨ ((L n).2.1 s = 0 ∧ ∃ j, j < 16 ∧ cs_lk L n s = nI j) := by
  rcases w n s hn with h | ⟨h0, j, hj, h⟩
  · exact Or.inl (cs_lk_neg h)
  · rw [cs_lk_j hj h]
    by_cases e : (L j).1 = (L n).2.2.2 s
    · rw [if_pos e]; exact Or.inr ⟨h0, j, hj, rfl⟩
    · rw [if_neg e]; exact Or.inl rfl
theorem cs_wf_put {L : cs_M} (w : cs_wf L) {n : Nat} (s : Fin 4) {v t q : Int32} (h : t = -1 ∨ (v = 0 ∧ ∃ j, j < 16 ∧ t = nI j)) : cs_wf (va_up L n (cs_put (L n) s v t q)) := by
  intro n' s' hn'
  by_cases e : n' = n
  · subst e
    rw [cs_us]
    unfold cs_put
    dsimp only
    by_cases e2 : s' = s
    · rw [if_pos e2, if_pos e2]; exact h
    · rw [if_neg e2, if_neg e2]; exact w n' s' hn'
  · rw [cs_un e]
    exact w n' s' hn'
theorem cs_fits {post : Int32 → Prop} {n s : Nat} (hn : n < 16) (hs : s < 4) (H : post 1) : wpX_fits post () (nI n) (nI s) :=
  br_f (nI_pos (by omega)) (br_f (nI_nlt (a := 15) (b := n) (by omega) (by omega)) (br_f (nI_pos (by omega)) (br_f (nI_nlt (a := 3) (b := s) (by omega) (by omega)) H)))
theorem cs_40 (f : Nat) : (4 : Int32) * nI f = nI (4 * f) := by
  rw [show (4 : Int32) = nI 4 from rfl, pk_mul]
section
variable {b : Bool} {L S D : cs_M} {m h o p : Int32} {a1 a2 a3 a4 a5 a6 a7 a8 a9 a10 a11 a12 a13 a14 a15 a16 : Nat → Int32} {f n : Nat}
theorem cs_liveKey {post : Int32 → St1 → Prop} (K : cs_K b L S D (m, h, o, p, a1, a2, a3, a4, a5, a6, a7, a8, a9, a10, a11, a12, a13, a14, a15, a16)) (w : cs_wf L) (hn : n < 16) (s : Fin 4)
    (H : ∀ u', cs_K b L S D u' → post (cs_lk L n s) u') : wpX_liveKey post (m, h, o, p, a1, a2, a3, a4, a5, a6, a7, a8, a9, a10, a11, a12, a13, a14, a15, a16) (nI n) (nI s.val) := by
  have hs := s.isLt
  unfold wpX_liveKey
  refine cs_frameFor K hn (fun f u' hf K' hat => ?_)
  obtain ⟨xm, xh, xo, xp, xa1, xa2, xa3, xa4, xa5, xa6, xa7, xa8, xa9, xa10, xa11, xa12, xa13, xa14, xa15, xa16⟩ := u'
  have hF := cs_K_F K' hf hn hat
  have hin : vp_in ((4 : Int32) * nI f + nI s.val) 20 := pk_in (4 * f + s.val) 20 (by omega) (cs_4 f s.val)
  have e1 : xa14 ((4 : Int32) * nI f + nI s.val).toNatClampNeg = (L n).2.2.1 s := by rw [cs_4, nI_clamp (by omega), ← hF]; rfl
  have e2 : xa15 ((4 : Int32) * nI f + nI s.val).toNatClampNeg = (L n).2.2.2 s := by rw [cs_4, nI_clamp (by omega), ← hF]; rfl
  rcases w n s hn with ht | ⟨_, j, hj, ht⟩
  · refine ⟨hin, nm_r (e1.trans ht) ⟨hin, nm_r e2 (br_f cs_neg' ?_)⟩⟩
    exact ek_v (P := fun r => post r (xm, xh, xo, xp, xa1, xa2, xa3, xa4, xa5, xa6, xa7, xa8, xa9, xa10, xa11, xa12, xa13, xa14, xa15, xa16)) (cs_lk_neg ht).symm (H _ K')
  · refine ⟨hin, nm_r (e1.trans ht) ⟨hin, nm_r e2 (br_t (nI_pos' (by omega)) ?_)⟩⟩
    refine cs_versionOf K' hj (fun u2 K2 => ?_)
    obtain ⟨ym, yh, yo, yp, ya1, ya2, ya3, ya4, ya5, ya6, ya7, ya8, ya9, ya10, ya11, ya12, ya13, ya14, ya15, ya16⟩ := u2
    have hl := cs_lk_j hj ht
    refine br_c (fun e => ?_) (fun e => ?_)
    · rw [if_pos e] at hl
      exact ek_v (P := fun r => post r (ym, yh, yo, yp, ya1, ya2, ya3, ya4, ya5, ya6, ya7, ya8, ya9, ya10, ya11, ya12, ya13, ya14, ya15, ya16)) hl.symm (H _ K2)
    · rw [if_neg e] at hl
      exact ek_v (P := fun r => post r (ym, yh, yo, yp, ya1, ya2, ya3, ya4, ya5, ya6, ya7, ya8, ya9, ya10, ya11, ya12, ya13, ya14, ya15, ya16)) hl.symm (H _ K2)
theorem cs_key {post : Int32 → St1 → Prop} (K : cs_K b L S D (m, h, o, p, a1, a2, a3, a4, a5, a6, a7, a8, a9, a10, a11, a12, a13, a14, a15, a16)) (w : cs_wf L) (hn : n < 16) (s : Fin 4)
    (H : ∀ u', cs_K b L S D u' → post (cs_kv L n s) u') : wpX_key post (m, h, o, p, a1, a2, a3, a4, a5, a6, a7, a8, a9, a10, a11, a12, a13, a14, a15, a16) (nI n) (nI s.val) := by
  unfold wpX_key
  refine cs_fits hn s.isLt (br_f (by decide) ?_)
  refine cs_liveKey K w hn s (fun u' K' => ?_)
  obtain ⟨xm, xh, xo, xp, xa1, xa2, xa3, xa4, xa5, xa6, xa7, xa8, xa9, xa10, xa11, xa12, xa13, xa14, xa15, xa16⟩ := u'
  refine br_c (fun e => ?_) (fun e => ?_)
  · have e2 : cs_kv L n s = cs_lk L n s := if_pos e
    exact ek_v (P := fun r => post r (xm, xh, xo, xp, xa1, xa2, xa3, xa4, xa5, xa6, xa7, xa8, xa9, xa10, xa11, xa12, xa13, xa14, xa15, xa16)) e2.symm (H _ K')
  · have e2 : cs_kv L n s = -2 := if_neg e
    exact ek_v (P := fun r => post r (xm, xh, xo, xp, xa1, xa2, xa3, xa4, xa5, xa6, xa7, xa8, xa9, xa10, xa11, xa12, xa13, xa14, xa15, xa16)) e2.symm (H _ K')
theorem cs_number {post : Int32 → St1 → Prop} (K : cs_K b L S D (m, h, o, p, a1, a2, a3, a4, a5, a6, a7, a8, a9, a10, a11, a12, a13, a14, a15, a16)) (hn : n < 16) (s : Fin 4)
    (H : ∀ u', cs_K b L S D u' → post ((L n).2.1 s) u') : wpX_number post (m, h, o, p, a1, a2, a3, a4, a5, a6, a7, a8, a9, a10, a11, a12, a13, a14, a15, a16) (nI n) (nI s.val) := by
  unfold wpX_number
  refine cs_fits hn s.isLt (br_f (by decide) ?_)
  refine cs_numberIn K hn s (fun u' K' => ?_)
  obtain ⟨xm, xh, xo, xp, xa1, xa2, xa3, xa4, xa5, xa6, xa7, xa8, xa9, xa10, xa11, xa12, xa13, xa14, xa15, xa16⟩ := u'
  exact H _ K'
theorem cs_write {post : Int32 → St1 → Prop} (K : cs_K b L S D (m, h, o, p, a1, a2, a3, a4, a5, a6, a7, a8, a9, a10, a11, a12, a13, a14, a15, a16)) (hn : n < 16) (s : Fin 4) (v : Int32)
    (H : ∀ u', cs_K b (va_up L n (cs_put (L n) s v (-1) 0)) S D u' → post 0 u') : wpX_write post (m, h, o, p, a1, a2, a3, a4, a5, a6, a7, a8, a9, a10, a11, a12, a13, a14, a15, a16) (nI n) (nI s.val) v := by
  unfold wpX_write
  refine cs_fits hn s.isLt (br_f (by decide) ?_)
  refine cs_w_put K hn s v (-1) 0 (fun u' K' => ?_)
  obtain ⟨xm, xh, xo, xp, xa1, xa2, xa3, xa4, xa5, xa6, xa7, xa8, xa9, xa10, xa11, xa12, xa13, xa14, xa15, xa16⟩ := u'
  exact H _ K'
theorem cs_writeKey {post : Int32 → St1 → Prop} (K : cs_K b L S D (m, h, o, p, a1, a2, a3, a4, a5, a6, a7, a8, a9, a10, a11, a12, a13, a14, a15, a16)) (hn : n < 16) (s : Fin 4) {j : Nat} (hj : j < 16)
    (H : ∀ u', cs_K b (va_up L n (cs_put (L n) s 0 (nI j) (L j).1)) S D u' → post 0 u') : wpX_writeKey post (m, h, o, p, a1, a2, a3, a4, a5, a6, a7, a8, a9, a10, a11, a12, a13, a14, a15, a16) (nI n) (nI s.val) (nI j) := by
  unfold wpX_writeKey
  refine cs_fits hn s.isLt (br_f (by decide) (br_f (nI_pos (by omega)) (br_t (nI_le (b := 15) (by omega) (by omega)) ?_)))
  refine cs_versionOf K hj (fun u' K' => ?_)
  obtain ⟨xm, xh, xo, xp, xa1, xa2, xa3, xa4, xa5, xa6, xa7, xa8, xa9, xa10, xa11, xa12, xa13, xa14, xa15, xa16⟩ := u'
  refine cs_w_put K' hn s 0 (nI j) (L j).1 (fun u2 K2 => ?_)
  obtain ⟨ym, yh, yo, yp, ya1, ya2, ya3, ya4, ya5, ya6, ya7, ya8, ya9, ya10, ya11, ya12, ya13, ya14, ya15, ya16⟩ := u2
  exact H _ K2
theorem cs_copy50 {post : Int32 → St1 → Prop} (K : cs_K b L S D (m, h, o, p, a1, a2, a3, a4, a5, a6, a7, a8, a9, a10, a11, a12, a13, a14, a15, a16)) (w : cs_wf L) (hn : n < 16) (s : Fin 4) {v t q : Int32} (hvt : t = -1 ∨ (v = 0 ∧ ∃ j, j < 16 ∧ t = nI j))
    (H : ∀ L' u', cs_wf L' → cs_K b L' S D u' → post 0 u') : wX_copy_50 post (nI n) (nI s.val) t v q m h o p a1 a2 a3 a4 a5 a6 a7 a8 a9 a10 a11 a12 a13 a14 a15 a16 := by
  unfold wX_copy_50
  refine cs_w_put K hn s v t q (fun u' K' => ?_)
  obtain ⟨xm, xh, xo, xp, xa1, xa2, xa3, xa4, xa5, xa6, xa7, xa8, xa9, xa10, xa11, xa12, xa13, xa14, xa15, xa16⟩ := u'
  exact H _ _ (cs_wf_put w s hvt) K'
theorem cs_w_copy {post : Int32 → St1 → Prop} (K : cs_K b L S D (m, h, o, p, a1, a2, a3, a4, a5, a6, a7, a8, a9, a10, a11, a12, a13, a14, a15, a16)) (w : cs_wf L) (hn : n < 16) (s : Fin 4) {n' : Nat} (hn' : n' < 16) (s' : Fin 4)
    (H : ∀ L' u', cs_wf L' → cs_K b L' S D u' → post 0 u') : wpX_copy post (m, h, o, p, a1, a2, a3, a4, a5, a6, a7, a8, a9, a10, a11, a12, a13, a14, a15, a16) (nI n) (nI s.val) (nI n') (nI s'.val) := by
  unfold wpX_copy
  refine cs_fits hn s.isLt (br_f (by decide) ?_)
  refine cs_fits hn' s'.isLt (br_f (by decide) ?_)
  refine cs_liveKey K w hn s (fun u1 K1 => ?_)
  obtain ⟨xm, xh, xo, xp, xa1, xa2, xa3, xa4, xa5, xa6, xa7, xa8, xa9, xa10, xa11, xa12, xa13, xa14, xa15, xa16⟩ := u1
  refine cs_numberIn K1 hn s (fun u2 K2 => ?_)
  obtain ⟨ym, yh, yo, yp, ya1, ya2, ya3, ya4, ya5, ya6, ya7, ya8, ya9, ya10, ya11, ya12, ya13, ya14, ya15, ya16⟩ := u2
  have hor := cs_lk_or w s hn
  refine br_c (fun e => ?_) (fun e => ?_)
  · rcases hor with h1 | ⟨h0, j, hj, h1⟩
    · rw [h1] at e; exact absurd e cs_neg'
    · rw [h1]
      refine cs_versionOf K2 hj (fun u3 K3 => ?_)
      obtain ⟨zm, zh, zo, zp, za1, za2, za3, za4, za5, za6, za7, za8, za9, za10, za11, za12, za13, za14, za15, za16⟩ := u3
      exact cs_copy50 K3 w hn' s' (Or.inr ⟨h0, j, hj, rfl⟩) H
  · exact cs_copy50 K2 w hn' s' hor H
/-- a node without keys and numbers -/
def cs_bl (x : Int32) : cs_C := (x, fun _ => 0, fun _ => -1, fun _ => 0)
theorem cs_blank {n t q v : Nat → Int32} {k : Nat} {x : Int32} : cs_c (va_cpy (fun _ => 0) n 0 (4 * k) 4) (va_cpy (fun _ => -1) t 0 (4 * k) 4) (va_cpy (fun _ => 0) q 0 (4 * k) 4) (upd v k x) = va_up (cs_c n t q v) k (cs_bl x) := by
  funext j
  by_cases e : j = k
  · subst e
    rw [cs_us]
    refine Eq.trans (b := cs_c (fun _ => 0) (fun _ => -1) (fun _ => 0) (fun _ => x) j) ?_ rfl
    refine cs_cE pk_us (fun s hs => ?_) (fun s hs => ?_) (fun s hs => ?_)
    all_goals exact pk_cpy_in (by omega) (by omega)
  · rw [cs_un e]
    refine cs_cE (pk_un e) (fun s hs => ?_) (fun s hs => ?_) (fun s hs => ?_)
    all_goals exact pk_cpy_out (by omega)
theorem cs_wf_bl {L : cs_M} (w : cs_wf L) {n : Nat} {x : Int32} : cs_wf (va_up L n (cs_bl x)) := by
  intro n' s' hn'
  by_cases e : n' = n
  · rw [e, cs_us]; exact Or.inl rfl
  · rw [cs_un e]
    exact w n' s' hn'
theorem cs_res37 {post : Int32 → St1 → Prop} (hf : f < 5)
    (H : post 0 (m, h, o, p, a1, a2, a3, a4, a5, a6, a7, a8, a9, a10, a11, a12, va_cpy (fun _ => 0) a13 0 (4 * f) 4, va_cpy (fun _ => -1) a14 0 (4 * f) 4, va_cpy (fun _ => 0) a15 0 (4 * f) 4, a16)) :
    ∃ q, wX_rescind_37 post (nI f) m h o p q (nI (4 * f)) a1 a2 a3 a4 a5 a6 a7 a8 a9 a10 a11 a12 a13 a14 a15 a16 :=
  pk_loop (fun q i (s : (Nat → Int32) × (Nat → Int32) × (Nat → Int32)) => wX_rescind_37 post (nI f) m h o p q (nI i) a1 a2 a3 a4 a5 a6 a7 a8 a9 a10 a11 a12 s.1 s.2.1 s.2.2 a16)
    (fun i s => 4 * f ≤ i ∧ s = (va_cpy (fun _ => 0) a13 0 (4 * f) (i - 4 * f), va_cpy (fun _ => -1) a14 0 (4 * f) (i - 4 * f), va_cpy (fun _ => 0) a15 0 (4 * f) (i - 4 * f))) (4 * f + 4) (4 * f) (a13, a14, a15) (by omega)
    ⟨by omega, by rw [Nat.sub_self, cs_cpy_0, cs_cpy_0, cs_cpy_0]⟩
    (fun q s h => pk_le (4 * f + 4) (4 * f + 4) (fun _ => by
      obtain ⟨_, h⟩ := h
      rw [show 4 * f + 4 - 4 * f = 4 by omega] at h
      subst h
      exact H) (fun z => absurd z (by omega)) (cs_4 f 4))
    (fun q i s hi h hw => by
      obtain ⟨hl, h⟩ := h
      subst h
      have e : ∀ (y : Int32) (r : Nat → Int32), upd (va_cpy (fun _ => y) r 0 (4 * f) (i - 4 * f)) (nI i).toNatClampNeg y = va_cpy (fun _ => y) r 0 (4 * f) (i + 1 - 4 * f) := fun y r => by
        rw [nI_clamp (by omega), show i + 1 - 4 * f = (i - 4 * f) + 1 by omega]
        exact cs_cpy_s (f := fun _ => y) (l := 0 + (i - 4 * f)) (by omega) rfl
      exact pk_le (4 * f + 4) i (fun z => absurd z (by omega)) (fun _ => ⟨pk_in i 20 (by omega), nm_r (e _ _) ⟨pk_in i 20 (by omega), nm_r (e _ _) ⟨pk_in i 20 (by omega), nm_r (e _ _) (nm_r (nI_1 i) (hw _ ⟨by omega, rfl⟩))⟩⟩⟩) (cs_4 f 4))
theorem cs_rescind {post : Int32 → St1 → Prop} (K : cs_K b L S D (m, h, o, p, a1, a2, a3, a4, a5, a6, a7, a8, a9, a10, a11, a12, a13, a14, a15, a16)) (w : cs_wf L) (hn : n < 16)
    (H : ∀ L' u', cs_wf L' → cs_K b L' S D u' → post 0 u') : wpX_rescind post (m, h, o, p, a1, a2, a3, a4, a5, a6, a7, a8, a9, a10, a11, a12, a13, a14, a15, a16) (nI n) := by
  unfold wpX_rescind
  refine br_f (nI_pos (by omega)) (br_t (nI_le (b := 15) (by omega) (by omega)) ?_)
  refine cs_frameFor K hn (fun f u' hf K' hat => ?_)
  obtain ⟨xm, xh, xo, xp, xa1, xa2, xa3, xa4, xa5, xa6, xa7, xa8, xa9, xa10, xa11, xa12, xa13, xa14, xa15, xa16⟩ := u'
  refine cs_makeW K' hf hn hat (fun b5 b6 b7 b8 b9 d' z' K2 hdt hz => ?_)
  have e : upd xa16 (nI f).toNatClampNeg (xa16 (nI f).toNatClampNeg + 1) = upd xa16 f (xa16 f + 1) := by rw [nI_clamp (by omega)]
  refine ⟨pk_in f 5 hf, pk_in f 5 hf, nm_r e (nm_r (cs_40 f) (cs_res37 hf (H (va_up L n (cs_bl (xa16 f + 1))) _ (cs_wf_bl w) ?_)))⟩
  obtain ⟨mk, op, pr, hd, hh, hm, hha, ho, hp, hb, J⟩ := K2
  refine ⟨mk, op, pr, hd, hh, hm, hha, ho, hp, hb, ?_⟩
  rw [cs_blank]
  exact cs_J_write J hf hn hat hdt hz _
end
end
section
section
variable {b : Bool} {L S D : cs_M} {m h o p : Int32} {a1 a2 a3 a4 a5 a6 a7 a8 a9 a10 a11 a12 a13 a14 a15 a16 : Nat → Int32} {f n : Nat}
theorem cs_snap_no {post : Int32 → St1 → Prop} (K : cs_K true L S D (m, h, o, p, a1, a2, a3, a4, a5, a6, a7, a8, a9, a10, a11, a12, a13, a14, a15, a16)) (H : post (-1) (m, h, o, p, a1, a2, a3, a4, a5, a6, a7, a8, a9, a10, a11, a12, a13, a14, a15, a16)) : wpX_snapshot post (m, h, o, p, a1, a2, a3, a4, a5, a6, a7, a8, a9, a10, a11, a12, a13, a14, a15, a16) := by
  obtain ⟨mk, op, pr, hd, hh, hm, hha, ho, hp, hb, J⟩ := K
  cases op with
  | none => exact absurd hb (by decide)
  | some k =>
    have hk := (J.2.2.1 k rfl).1
    have ho' : o = nI k := ho
    subst ho'
    exact br_f (nI_pos (by omega)) H
theorem cs_snap_yes {post : Int32 → St1 → Prop} (K : cs_K false L S D (m, h, o, p, a1, a2, a3, a4, a5, a6, a7, a8, a9, a10, a11, a12, a13, a14, a15, a16)) (H : ∀ u', cs_K true L L D u' → post 0 u') : wpX_snapshot post (m, h, o, p, a1, a2, a3, a4, a5, a6, a7, a8, a9, a10, a11, a12, a13, a14, a15, a16) := by
  obtain ⟨mk, op, pr, hd, hh, hm, hha, ho, hp, hb, J⟩ := K
  cases op with
  | some k => exact absurd hb (fun e => Bool.noConfusion e)
  | none =>
    have ho' : o = -1 := ho
    subst ho'
    refine br_t cs_neg ?_
    refine pk_loop (fun n i (s : Nat → Int32) => wX_snapshot_11 post m h (-1) p n (nI i) a1 a2 a3 a4 a5 a6 a7 a8 a9 a10 a11 s a13 a14 a15 a16) (fun i s => ∀ f, f < i → s f = a11 f) 5 0 a12 (by omega) (fun f hf => absurd hf (by omega)) (fun n s hs => ?_) (fun n i s hi hs hw => ?_)
    · refine pk_le 5 5 (fun _ => ?_) (fun z => absurd z (by omega))
      refine cs_w_unused (fun r hr hrm hro => cs_w_clear hr (fun g' q1 q2 => H _ ⟨mk, some pr, r, hd, hh, hm, hha, hp, rfl, rfl, ?_⟩))
      exact cs_J_snap J hr (fun e => hrm (by rw [hm, e]; rfl)) (fun e => hro (by rw [hp, e])) q1 q2 hs
    · have e : upd s (nI i).toNatClampNeg (vp_nar .boolean (a11 (nI i).toNatClampNeg)) = upd s i (a11 i) := by
        rw [nI_clamp (by omega)]
        rcases J.2.2.2.2.2.1 i hi with h0 | h0
        · rw [h0]; rfl
        · rw [h0]; rfl
      refine pk_le 5 i (fun z => absurd z (by omega)) (fun _ => ⟨pk_in i 5 hi, pk_in i 5 hi, nm_r e (nm_r (nI_1 i) (hw _ (fun f hf => ?_)))⟩)
      by_cases ef : f = i
      · rw [ef, pk_us]
      · rw [pk_un ef]; exact hs f (by omega)
theorem cs_mh68 {post : St1 → Prop} {t : Int32} {k mv i : Nat} {op : Option Nat} {pr : Nat} (J : cs_J L S D (some k) op pr (cs_c a1 a2 a3 a4) (cs_c a5 a6 a7 a8) a9 a10 a11 a12 (cs_c a13 a14 a15 a16)) (hmv : mv ≤ i) (hi : i ≤ 16) (h0 : ∀ j, j < i → a9 (16 * k + j) = 0) (hx : i = 16 ∨ t ≤ nI mv)
    (H : ∀ mk' b1 b2 b3 b4 b9, cs_J L S D mk' op pr (cs_c b1 b2 b3 b4) (cs_c a5 a6 a7 a8) b9 a10 a11 a12 (cs_c a13 a14 a15 a16) → (t = 16 → ∀ n, n < 16 → cs_lay (cs_c a5 a6 a7 a8) b9 mk' n (cs_c b1 b2 b3 b4 n) = cs_c b1 b2 b3 b4 n) → post (cs_e mk', h, o, p, b1, b2, b3, b4, a5, a6, a7, a8, b9, a10, a11, a12, a13, a14, a15, a16)) :
    wX_moveHome_68 post t (nI mv) (nI k) h o p a1 a2 a3 a4 a5 a6 a7 a8 a9 a10 a11 a12 a13 a14 a15 a16 := by
  unfold wX_moveHome_68
  refine br_c (fun hle => ?_) (fun hgt => ?_)
  · refine H (some k) a1 a2 a3 a4 a9 J (fun ht n hn => cs_lay_t (h0 n ?_))
    rw [ht] at hle
    have h16 : 16 ≤ mv := (nI_leI (a := 16) (b := mv) (by omega) (by omega)).mp hle
    omega
  · have hi16 : i = 16 := hx.resolve_right hgt
    subst hi16
    exact H none a1 a2 a3 a4 a9 (cs_J_unmark J h0) (fun _ _ _ => rfl)
theorem cs_moveHome {post : St1 → Prop} {t : Int32} {mk op : Option Nat} {pr : Nat} (J : cs_J L S D mk op pr (cs_c a1 a2 a3 a4) (cs_c a5 a6 a7 a8) a9 a10 a11 a12 (cs_c a13 a14 a15 a16)) (hm : m = cs_e mk)
    (H : ∀ mk' b1 b2 b3 b4 b9, cs_J L S D mk' op pr (cs_c b1 b2 b3 b4) (cs_c a5 a6 a7 a8) b9 a10 a11 a12 (cs_c a13 a14 a15 a16) → (t = 16 → ∀ n, n < 16 → cs_lay (cs_c a5 a6 a7 a8) b9 mk' n (cs_c b1 b2 b3 b4 n) = cs_c b1 b2 b3 b4 n) → post (cs_e mk', h, o, p, b1, b2, b3, b4, a5, a6, a7, a8, b9, a10, a11, a12, a13, a14, a15, a16)) :
    wpX_moveHome post (m, h, o, p, a1, a2, a3, a4, a5, a6, a7, a8, a9, a10, a11, a12, a13, a14, a15, a16) t := by
  cases mk with
  | none =>
    have hm' : m = -1 := hm
    subst hm'
    exact br_f cs_neg' (H none a1 a2 a3 a4 a9 J (fun _ _ _ => rfl))
  | some k =>
    have hm' : m = nI k := hm
    subst hm'
    have hk := (J.2.1 k rfl).1
    refine br_t (nI_pos' (by omega)) ?_
    refine pk_loop (fun q i (s : Nat × (Nat → Int32) × (Nat → Int32) × (Nat → Int32) × (Nat → Int32) × (Nat → Int32)) => wX_moveHome_12 post t q (nI s.1) (nI i) (nI k) h o p s.2.1 s.2.2.1 s.2.2.2.1 s.2.2.2.2.1 a5 a6 a7 a8 s.2.2.2.2.2 a10 a11 a12 a13 a14 a15 a16)
      (fun i s => s.1 ≤ i ∧ (∀ j, j < i → s.2.2.2.2.2 (16 * k + j) = 0) ∧ cs_J L S D (some k) op pr (cs_c s.2.1 s.2.2.1 s.2.2.2.1 s.2.2.2.2.1) (cs_c a5 a6 a7 a8) s.2.2.2.2.2 a10 a11 a12 (cs_c a13 a14 a15 a16)) 16 0 (0, a1, a2, a3, a4, a9) (by omega) ⟨by omega, fun j hj => absurd hj (by omega), J⟩ (fun q s hs => ?_) (fun q i s hi hs hw => ?_)
    · obtain ⟨mv, b1, b2, b3, b4, b9⟩ := s
      obtain ⟨hmv, h0, J'⟩ := hs
      exact pk_le 16 16 (fun _ => cs_mh68 J' hmv (by omega) h0 (Or.inl rfl) H) (fun z => absurd z (by omega))
    · obtain ⟨mv, b1, b2, b3, b4, b9⟩ := s
      obtain ⟨hmv, h0, J'⟩ := hs
      dsimp only at hmv h0 J'
      refine pk_le 16 i (fun z => absurd z (by omega)) (fun _ => br_c (fun hle => cs_mh68 J' hmv (by omega) h0 (Or.inr hle) H) (fun hgt => nm_r (cs_16 k i) ⟨pk_in (16 * k + i) 48 (by omega), ?_⟩))
      have hc : (nI (16 * k + i)).toNatClampNeg = 16 * k + i := nI_clamp (by omega)
      refine br_c (fun hg => ?_) (fun hg => ?_)
      · rw [hc] at hg
        refine nm_r (nI_1 i) (hw (mv, b1, b2, b3, b4, b9) ⟨by show mv ≤ i + 1; omega, fun j hj => ?_, J'⟩)
        by_cases ej : j = i
        · rw [ej]; exact hg
        · exact h0 j (by omega)
      · rw [hc] at hg
        refine cs_w_copyHome (by omega) hi ⟨pk_in (16 * k + i) 48 (by omega), nm_r (cs_uc (by omega)) (nm_r (nI_1 mv) (nm_r (nI_1 i) (hw (mv + 1, _, _, _, _, _) ⟨by show mv + 1 ≤ i + 1; omega, fun j hj => ?_, ?_⟩)))⟩
        · show upd b9 (16 * k + i) 0 (16 * k + j) = 0
          by_cases ej : j = i
          · rw [ej, pk_us]
          · rw [pk_un (by omega)]; exact h0 j (by omega)
        · have J2 := cs_J_move J' hi hg
          rw [← cs_copy] at J2
          exact J2
/-- the first i frames are not frozen -/
def cs_zf (i : Nat) (u : St1) : Prop := match u with
  | (m, h, o, p, a1, a2, a3, a4, a5, a6, a7, a8, a9, a10, a11, a12, a13, a14, a15, a16) => ∀ j, j < i → a12 j = 0
theorem cs_zs {i : Nat} {z : Nat → Int32} (h : ∀ j, j < i → z j = 0) (hi : z i = 0) : ∀ j, j < i + 1 → z j = 0 := fun j hj => by
  by_cases e : j = i
  · rw [e]; exact hi
  · exact h j (by omega)
theorem cs_zu {i : Nat} {z : Nat → Int32} (h : ∀ j, j < i → z j = 0) : ∀ j, j < i + 1 → upd z i 0 j = 0 := fun j hj => by
  by_cases e : j = i
  · rw [e, pk_us]
  · rw [pk_un e]; exact h j (by omega)
theorem cs_settle {post : Int32 → St1 → Prop} (K : cs_K true L S D (m, h, o, p, a1, a2, a3, a4, a5, a6, a7, a8, a9, a10, a11, a12, a13, a14, a15, a16)) (H : ∀ u', cs_K false L S S u' → post 0 u') : wpX_settle post (m, h, o, p, a1, a2, a3, a4, a5, a6, a7, a8, a9, a10, a11, a12, a13, a14, a15, a16) := by
  have ho0 : 0 ≤ o := by
    obtain ⟨mk, op, pr, hd, hh, hm, hha, ho, hp, hb, J⟩ := K
    cases op with
    | none => exact absurd hb (by decide)
    | some k =>
      have hk := (J.2.2.1 k rfl).1
      rw [ho]
      exact nI_pos' (by omega)
  refine br_t ho0 ?_
  refine pk_loop (fun q i (u : St1) => match u with | (xm, xh, xo, xp, xa1, xa2, xa3, xa4, xa5, xa6, xa7, xa8, xa9, xa10, xa11, xa12, xa13, xa14, xa15, xa16) => wX_settle_11 post q (nI i) xm xh xo xp xa1 xa2 xa3 xa4 xa5 xa6 xa7 xa8 xa9 xa10 xa11 xa12 xa13 xa14 xa15 xa16) (fun i u => cs_K true L S D u ∧ cs_zf i u) 5 0 (m, h, o, p, a1, a2, a3, a4, a5, a6, a7, a8, a9, a10, a11, a12, a13, a14, a15, a16) (by omega) ⟨K, fun j hj => absurd hj (by omega)⟩ (fun q u hu => ?_) (fun q i u hi hu hw => ?_)
  · obtain ⟨xm, xh, xo, xp, xa1, xa2, xa3, xa4, xa5, xa6, xa7, xa8, xa9, xa10, xa11, xa12, xa13, xa14, xa15, xa16⟩ := u
    obtain ⟨K', hz⟩ := hu
    show wX_settle_11 post (q + 1) (nI 5) xm xh xo xp xa1 xa2 xa3 xa4 xa5 xa6 xa7 xa8 xa9 xa10 xa11 xa12 xa13 xa14 xa15 xa16
    refine pk_le 5 5 (fun _ => ?_) (fun z => absurd z (by omega))
    obtain ⟨mk, op, pr, hd, hh, hm, hha, ho, hp, hb, J⟩ := K'
    cases op with
    | none => exact absurd hb (by decide)
    | some k =>
      refine cs_moveHome J hm (fun mk' b1 b2 b3 b4 b9 J' hs => H _ ⟨some k, none, pr, hd, hh, ho, hha, rfl, hp, rfl, ?_⟩)
      exact cs_J_settle J' hz (hs rfl)
  · obtain ⟨xm, xh, xo, xp, xa1, xa2, xa3, xa4, xa5, xa6, xa7, xa8, xa9, xa10, xa11, xa12, xa13, xa14, xa15, xa16⟩ := u
    obtain ⟨K', hz⟩ := hu
    show wX_settle_11 post (q + 1) (nI i) xm xh xo xp xa1 xa2 xa3 xa4 xa5 xa6 xa7 xa8 xa9 xa10 xa11 xa12 xa13 xa14 xa15 xa16
    have hc : (nI i).toNatClampNeg = i := nI_clamp (by omega)
    refine pk_le 5 i (fun z => absurd z (by omega)) (fun _ => ⟨pk_in i 5 hi, br_c (fun h0 => ?_) (fun h1 => ?_)⟩)
    · rw [hc] at h0
      exact nm_r (nI_1 i) (hw (xm, xh, xo, xp, xa1, xa2, xa3, xa4, xa5, xa6, xa7, xa8, xa9, xa10, xa11, xa12, xa13, xa14, xa15, xa16) ⟨K', cs_zs hz h0⟩)
    · rw [hc] at h1
      exact cs_saveFrozen K' hi h1 (fun b5 b6 b7 b8 b9 K2 => nm_r (nI_1 i) (hw (xm, xh, xo, xp, xa1, xa2, xa3, xa4, b5, b6, b7, b8, b9, xa10, upd xa11 i 0, upd xa12 i 0, xa13, xa14, xa15, xa16) ⟨K2, cs_zu hz⟩))
theorem cs_id32 {post : St1 → Prop} {t : Int32} (K : cs_K b L S D (m, h, o, p, a1, a2, a3, a4, a5, a6, a7, a8, a9, a10, a11, a12, a13, a14, a15, a16)) (H : ∀ u', cs_K b L S D u' → post u') : wX_idle_32 post t m h o p a1 a2 a3 a4 a5 a6 a7 a8 a9 a10 a11 a12 a13 a14 a15 a16 := by
  obtain ⟨mk, op, pr, hd, hh, hm, hha, ho, hp, hb, J⟩ := K
  unfold wX_idle_32
  exact cs_moveHome J hm (fun mk' b1 b2 b3 b4 b9 J' hs => H _ ⟨mk', op, pr, hd, hh, rfl, hha, ho, hp, hb, J'⟩)
theorem cs_idle {post : St1 → Prop} {t : Int32} (K : cs_K b L S D (m, h, o, p, a1, a2, a3, a4, a5, a6, a7, a8, a9, a10, a11, a12, a13, a14, a15, a16)) (H : ∀ u', cs_K b L S D u' → post u') : wpX_idle post (m, h, o, p, a1, a2, a3, a4, a5, a6, a7, a8, a9, a10, a11, a12, a13, a14, a15, a16) t := by
  refine pk_loop (fun q i (u : St1) => match u with | (xm, xh, xo, xp, xa1, xa2, xa3, xa4, xa5, xa6, xa7, xa8, xa9, xa10, xa11, xa12, xa13, xa14, xa15, xa16) => wX_idle_2 post t q (nI i) xm xh xo xp xa1 xa2 xa3 xa4 xa5 xa6 xa7 xa8 xa9 xa10 xa11 xa12 xa13 xa14 xa15 xa16) (fun i u => cs_K b L S D u) 5 0 (m, h, o, p, a1, a2, a3, a4, a5, a6, a7, a8, a9, a10, a11, a12, a13, a14, a15, a16) (by omega) K (fun q u hu => ?_) (fun q i u hi hu hw => ?_)
  · obtain ⟨xm, xh, xo, xp, xa1, xa2, xa3, xa4, xa5, xa6, xa7, xa8, xa9, xa10, xa11, xa12, xa13, xa14, xa15, xa16⟩ := u
    show wX_idle_2 post t (q + 1) (nI 5) xm xh xo xp xa1 xa2 xa3 xa4 xa5 xa6 xa7 xa8 xa9 xa10 xa11 xa12 xa13 xa14 xa15 xa16
    exact pk_le 5 5 (fun _ => cs_id32 hu H) (fun z => absurd z (by omega))
  · obtain ⟨xm, xh, xo, xp, xa1, xa2, xa3, xa4, xa5, xa6, xa7, xa8, xa9, xa10, xa11, xa12, xa13, xa14, xa15, xa16⟩ := u
    show wX_idle_2 post t (q + 1) (nI i) xm xh xo xp xa1 xa2 xa3 xa4 xa5 xa6 xa7 xa8 xa9 xa10 xa11 xa12 xa13 xa14 xa15 xa16
    have hc : (nI i).toNatClampNeg = i := nI_clamp (by omega)
    refine pk_le 5 i (fun z => absurd z (by omega)) (fun _ => br_c (fun hle => cs_id32 hu H) (fun hgt => ⟨pk_in i 5 hi, br_c (fun h0 => ?_) (fun h1 => ?_)⟩))
    · exact nm_r (nI_1 i) (hw (xm, xh, xo, xp, xa1, xa2, xa3, xa4, xa5, xa6, xa7, xa8, xa9, xa10, xa11, xa12, xa13, xa14, xa15, xa16) hu)
    · rw [hc] at h1
      exact cs_saveFrozen hu hi h1 (fun b5 b6 b7 b8 b9 K2 => nm_r (nI_1 i) (hw (xm, xh, xo, xp, xa1, xa2, xa3, xa4, b5, b6, b7, b8, b9, xa10, upd xa11 i 0, upd xa12 i 0, xa13, xa14, xa15, xa16) K2))
theorem cs_crash {post : St1 → Prop} (K : cs_K b L S D (m, h, o, p, a1, a2, a3, a4, a5, a6, a7, a8, a9, a10, a11, a12, a13, a14, a15, a16)) (H : ∀ u', cs_K false D D D u' → post u') : wpX_crash post (m, h, o, p, a1, a2, a3, a4, a5, a6, a7, a8, a9, a10, a11, a12, a13, a14, a15, a16) := by
  obtain ⟨mk, op, pr, hd, hh, hm, hha, ho, hp, hb, J⟩ := K
  unfold wpX_crash
  refine cs_w_restart (fun r g' n' d' z' hr hrm q1 q2 q3 q4 q5 => H _ ⟨mk, none, r, 0, by omega, hm, rfl, rfl, rfl, rfl, ?_⟩)
  exact cs_J_restart hr (fun k hk => (J.2.1 k hk).1) J.2.2.2.2.2.2.2.2.2.2.2.2 (fun e => hrm (by rw [hm, e]; rfl)) q1 q2 q3 q4 q5
/-- the empty store -/
def cs_D0 : cs_M := fun _ => cs_bl 0
theorem cs_wf_0 : cs_wf cs_D0 := fun _ _ _ => Or.inl rfl
theorem cs_init {post : St1 → Prop} (H : ∀ u', cs_K false cs_D0 cs_D0 cs_D0 u' → post u') : wpX_init post 16 960 (0, 0, 0, 0) := by
  refine ⟨by decide, by decide, by decide, by decide, by decide, by decide, by decide, by decide, by decide, by decide, by decide, by decide, by decide, by decide, by decide, by decide, by decide, by decide, by decide, by decide, by decide, by decide, by decide, by decide, by decide, by decide, by decide, by decide, by decide, by decide, by decide, by decide, ?_⟩
  refine pk_loop (fun q i (s : Nat → Int32) => wX_init_138 post 16 960 16 960 (-1) 0 0 0 q (nI i) (fun _ => 0) s (fun _ => 0) (fun _ => 0) (fun _ => 0) (fun _ => 0) (fun _ => 0) (fun _ => 0) (fun _ => 0) (fun _ => 0) (fun _ => 0) (fun _ => 0) (fun _ => 0) (fun _ => 0) (fun _ => 0) (fun _ => 0)) (fun i s => ∀ j, j < i → s j = -1) 64 0 (fun _ => 0) (by omega) (fun j hj => absurd hj (by omega)) (fun q s hs => ?_) (fun q i s hi hs hw => ?_)
  · refine pk_le 64 64 (fun _ => ?_) (fun z => absurd z (by omega))
    refine cs_w_restart (fun r g' n' d' z' hr hrm q1 q2 q3 q4 q5 => H _ ⟨none, none, r, 0, by omega, rfl, rfl, rfl, rfl, rfl, ?_⟩)
    refine cs_J_restart (g := fun _ => 0) hr (fun k hk => absurd hk.symm (Option.some_ne_none k)) (fun n hn => ?_) (fun e => absurd e.symm (Option.some_ne_none r)) q1 q2 q3 q4 q5
    show cs_c (fun _ => 0) s (fun _ => 0) (fun _ => 0) n = cs_D0 n
    refine Eq.trans (b := cs_c (fun _ => 0) (fun _ => -1) (fun _ => 0) (fun _ => 0) n) ?_ rfl
    exact cs_cE rfl (fun _ _ => rfl) (fun i hi => hs (4 * n + i) (by omega)) (fun _ _ => rfl)
  · refine pk_le 64 i (fun z => absurd z (by omega)) (fun _ => ⟨pk_in i 64 hi, nm_r (cs_uc (by omega)) (nm_r (nI_1 i) (hw _ (fun j hj => ?_)))⟩)
    by_cases ej : j = i
    · rw [ej, pk_us]
    · rw [pk_un ej]; exact hs j (by omega)
end
end
section
theorem cs_kv_or {L : cs_M} (w : cs_wf L) {n : Nat} (s : Fin 4) (hn : n < 16) : cs_kv L n s = -2 ∨ ((L n).2.1 s = 0 ∧ ∃ j, j < 16 ∧ cs_kv L n s = nI j) := by
  unfold cs_kv
  rcases cs_lk_or w s hn with h | ⟨h0, j, hj, h⟩
  · rw [h, if_neg cs_neg']; exact Or.inl rfl
  · rw [h, if_pos (nI_pos' (by omega))]; exact Or.inr ⟨h0, j, hj, rfl⟩
/-- in a store whose versions are all 0 a slot says what key answers -/
theorem cs_kv_slot {P Q : cs_M} (w : cs_wf P) (hP : ∀ n, n < 16 → (P n).1 = 0) (hQ : ∀ n, n < 16 → (Q n).1 = 0) {n : Nat} {s : Fin 4} (hn : n < 16) (h1 : (Q n).2.2.1 s = (P n).2.2.1 s) (h2 : (Q n).2.2.2 s = (P n).2.2.2 s) : cs_kv Q n s = cs_kv P n s := by
  have e : cs_lk Q n s = cs_lk P n s := by
    rcases w n s hn with h | ⟨h0, j, hj, h⟩
    · rw [cs_lk_neg h, cs_lk_neg (h1.trans h)]
    · rw [cs_lk_j hj h, cs_lk_j hj (h1.trans h), hP j hj, hQ j hj, h2]
  unfold cs_kv
  rw [e]
theorem cs_v_put {P : cs_M} {n n' : Nat} {s : Fin 4} {v t q : Int32} : (va_up P n (cs_put (P n) s v t q) n').1 = (P n').1 := by
  by_cases e : n' = n
  · rw [e, cs_us]; rfl
  · rw [cs_un e]
/-- the same slot in two stores -/
def cs_eqs (P Q : cs_M) (n : Nat) (s : Fin 4) : Prop := cs_kv P n s = cs_kv Q n s ∧ (P n).2.1 s = (Q n).2.1 s
/-- the same view -/
def cs_eq (P Q : cs_M) : Prop := ∀ n (s : Fin 4), n < 16 → cs_eqs P Q n s
/-- the same view in all slots ahead of slot i of node n -/
def cs_done (P Q : cs_M) (n i : Nat) : Prop := ∀ n' (s' : Fin 4), n' < 16 → (n' < n ∨ (n' = n ∧ s'.val < i)) → cs_eqs P Q n' s'
/-- the recording store: never rescinded -/
def cs_Y (P : cs_M) (v : St1) : Prop := cs_wf P ∧ (∀ n, n < 16 → (P n).1 = 0) ∧ ∃ S D, cs_K false P S D v
theorem cs_put_kv {P : cs_M} (w : cs_wf P) (hP : ∀ n, n < 16 → (P n).1 = 0) {n : Nat} (hn : n < 16) (s : Fin 4) {v t : Int32} (h : (t = -1) ∨ (v = 0 ∧ ∃ j, j < 16 ∧ t = nI j)) {Q : cs_M} {k : Int32} (hk : (t = -1 ∧ k = -2) ∨ (¬ t = -1 ∧ k = t)) (hQk : cs_kv Q n s = k) (hQn : (Q n).2.1 s = v) {i : Nat} (hi : s.val = i) (hd : cs_done P Q n i) : cs_done (va_up P n (cs_put (P n) s v t 0)) Q n (i + 1) := by
  have w' := cs_wf_put w (n := n) s (v := v) (t := t) (q := 0) h
  have hP' : ∀ n', n' < 16 → (va_up P n (cs_put (P n) s v t 0) n').1 = 0 := fun n' hn' => by rw [cs_v_put]; exact hP n' hn'
  intro n' s' hn' hc
  by_cases e : n' = n ∧ s' = s
  · obtain ⟨e1, e2⟩ := e
    subst e1 e2
    have f1 : (va_up P n' (cs_put (P n') s' v t 0) n').2.1 s' = v := by rw [cs_us]; exact if_pos rfl
    have f2 : (va_up P n' (cs_put (P n') s' v t 0) n').2.2.1 s' = t := by rw [cs_us]; exact if_pos rfl
    have f3 : (va_up P n' (cs_put (P n') s' v t 0) n').2.2.2 s' = 0 := by rw [cs_us]; exact if_pos rfl
    refine ⟨?_, f1.trans hQn.symm⟩
    rw [hQk]
    rcases hk with ⟨ht, hk⟩ | ⟨ht, hk⟩
    · unfold cs_kv
      rw [cs_lk_neg (f2.trans ht), if_neg cs_neg', hk]
    · rcases h with h | ⟨_, j, hj, h⟩
      · exact absurd h ht
      · unfold cs_kv
        rw [cs_lk_j hj (f2.trans h), hP' j hj, f3, if_pos rfl, if_pos (nI_pos' (by omega)), hk, h]
  · have g : (va_up P n (cs_put (P n) s v t 0) n').2.1 s' = (P n').2.1 s' ∧ (va_up P n (cs_put (P n) s v t 0) n').2.2.1 s' = (P n').2.2.1 s' ∧ (va_up P n (cs_put (P n) s v t 0) n').2.2.2 s' = (P n').2.2.2 s' := by
      by_cases e1 : n' = n
      · subst e1
        have e2 : ¬ s' = s := fun e2 => e ⟨rfl, e2⟩
        rw [cs_us]
        exact ⟨if_neg e2, if_neg e2, if_neg e2⟩
      · rw [cs_un e1]; exact ⟨rfl, rfl, rfl⟩
    have hold : cs_eqs P Q n' s' := by
      refine hd n' s' hn' ?_
      rcases hc with hc | ⟨hc1, hc2⟩
      · exact Or.inl hc
      · refine Or.inr ⟨hc1, ?_⟩
        have : s'.val ≠ s.val := fun q => e ⟨hc1, Fin.ext q⟩
        omega
    exact ⟨(cs_kv_slot w hP hP' hn' g.2.1 g.2.2).trans hold.1, g.1.trans hold.2⟩
theorem cs_done_4 {P Q : cs_M} {n : Nat} (h : cs_done P Q n 4) : cs_done P Q (n + 1) 0 := fun n' s' hn' hc => h n' s' hn' (by
  have := s'.isLt
  omega)
section
variable {b : Bool} {L S D : cs_M} {xm xh xo xp : Int32} {xa1 xa2 xa3 xa4 xa5 xa6 xa7 xa8 xa9 xa10 xa11 xa12 xa13 xa14 xa15 xa16 : Nat → Int32} {ym yh yo yp : Int32} {ya1 ya2 ya3 ya4 ya5 ya6 ya7 ya8 ya9 ya10 ya11 ya12 ya13 ya14 ya15 ya16 : Nat → Int32}
theorem cs_rec10 {post : St2 → Prop} {J2 : Int32 → Int32 → Int32 → Int32 → Int32 → (Nat → Int32) → (Nat → Int32) → (Nat → Int32) → (Nat → Int32) → (Nat → Int32) → (Nat → Int32) → (Nat → Int32) → (Nat → Int32) → (Nat → Int32) → (Nat → Int32) → (Nat → Int32) → (Nat → Int32) → (Nat → Int32) → (Nat → Int32) → (Nat → Int32) → (Nat → Int32) → Int32 → Int32 → Int32 → Int32 → (Nat → Int32) → (Nat → Int32) → (Nat → Int32) → (Nat → Int32) → (Nat → Int32) → (Nat → Int32) → (Nat → Int32) → (Nat → Int32) → (Nat → Int32) → (Nat → Int32) → (Nat → Int32) → (Nat → Int32) → (Nat → Int32) → (Nat → Int32) → (Nat → Int32) → (Nat → Int32) → Prop} {n : Nat} {P : cs_M} (hn : n < 16) (w : cs_wf L) (K : cs_K b L S D (xm, xh, xo, xp, xa1, xa2, xa3, xa4, xa5, xa6, xa7, xa8, xa9, xa10, xa11, xa12, xa13, xa14, xa15, xa16)) (Y : cs_Y P (ym, yh, yo, yp, ya1, ya2, ya3, ya4, ya5, ya6, ya7, ya8, ya9, ya10, ya11, ya12, ya13, ya14, ya15, ya16)) (hd : cs_done P L n 0)
    (H : ∀ u v P', cs_K b L S D u → cs_Y P' v → cs_done P' L (n + 1) 0 → match u, v with | (xm, xh, xo, xp, xa1, xa2, xa3, xa4, xa5, xa6, xa7, xa8, xa9, xa10, xa11, xa12, xa13, xa14, xa15, xa16), (ym, yh, yo, yp, ya1, ya2, ya3, ya4, ya5, ya6, ya7, ya8, ya9, ya10, ya11, ya12, ya13, ya14, ya15, ya16) => J2 (nI (n + 1)) xm xh xo xp xa1 xa2 xa3 xa4 xa5 xa6 xa7 xa8 xa9 xa10 xa11 xa12 xa13 xa14 xa15 xa16 ym yh yo yp ya1 ya2 ya3 ya4 ya5 ya6 ya7 ya8 ya9 ya10 ya11 ya12 ya13 ya14 ya15 ya16) :
    ∃ q, wL_record_10 post J2 (nI n) q 0 xm xh xo xp xa1 xa2 xa3 xa4 xa5 xa6 xa7 xa8 xa9 xa10 xa11 xa12 xa13 xa14 xa15 xa16 ym yh yo yp ya1 ya2 ya3 ya4 ya5 ya6 ya7 ya8 ya9 ya10 ya11 ya12 ya13 ya14 ya15 ya16 := by
  refine pk_loop (fun q i (s : St1 × St1) => match s with | ((xm, xh, xo, xp, xa1, xa2, xa3, xa4, xa5, xa6, xa7, xa8, xa9, xa10, xa11, xa12, xa13, xa14, xa15, xa16), (ym, yh, yo, yp, ya1, ya2, ya3, ya4, ya5, ya6, ya7, ya8, ya9, ya10, ya11, ya12, ya13, ya14, ya15, ya16)) => wL_record_10 post J2 (nI n) q (nI i) xm xh xo xp xa1 xa2 xa3 xa4 xa5 xa6 xa7 xa8 xa9 xa10 xa11 xa12 xa13 xa14 xa15 xa16 ym yh yo yp ya1 ya2 ya3 ya4 ya5 ya6 ya7 ya8 ya9 ya10 ya11 ya12 ya13 ya14 ya15 ya16) (fun i s => cs_K b L S D s.1 ∧ ∃ P', cs_Y P' s.2 ∧ cs_done P' L n i) 4 0 ((xm, xh, xo, xp, xa1, xa2, xa3, xa4, xa5, xa6, xa7, xa8, xa9, xa10, xa11, xa12, xa13, xa14, xa15, xa16), (ym, yh, yo, yp, ya1, ya2, ya3, ya4, ya5, ya6, ya7, ya8, ya9, ya10, ya11, ya12, ya13, ya14, ya15, ya16)) (by omega) ⟨K, P, Y, hd⟩ (fun q s hs => ?_) (fun q i s hi hs hw => ?_)
  · obtain ⟨⟨xm, xh, xo, xp, xa1, xa2, xa3, xa4, xa5, xa6, xa7, xa8, xa9, xa10, xa11, xa12, xa13, xa14, xa15, xa16⟩, ⟨ym, yh, yo, yp, ya1, ya2, ya3, ya4, ya5, ya6, ya7, ya8, ya9, ya10, ya11, ya12, ya13, ya14, ya15, ya16⟩⟩ := s
    obtain ⟨K', P', Y', hd'⟩ := hs
    show wL_record_10 post J2 (nI n) (q + 1) (nI 4) xm xh xo xp xa1 xa2 xa3 xa4 xa5 xa6 xa7 xa8 xa9 xa10 xa11 xa12 xa13 xa14 xa15 xa16 ym yh yo yp ya1 ya2 ya3 ya4 ya5 ya6 ya7 ya8 ya9 ya10 ya11 ya12 ya13 ya14 ya15 ya16
    exact pk_le 4 4 (fun _ => nm_r (nI_1 n) (H (xm, xh, xo, xp, xa1, xa2, xa3, xa4, xa5, xa6, xa7, xa8, xa9, xa10, xa11, xa12, xa13, xa14, xa15, xa16) (ym, yh, yo, yp, ya1, ya2, ya3, ya4, ya5, ya6, ya7, ya8, ya9, ya10, ya11, ya12, ya13, ya14, ya15, ya16) P' K' Y' (cs_done_4 hd'))) (fun z => absurd z (by omega))
  · obtain ⟨⟨xm, xh, xo, xp, xa1, xa2, xa3, xa4, xa5, xa6, xa7, xa8, xa9, xa10, xa11, xa12, xa13, xa14, xa15, xa16⟩, ⟨ym, yh, yo, yp, ya1, ya2, ya3, ya4, ya5, ya6, ya7, ya8, ya9, ya10, ya11, ya12, ya13, ya14, ya15, ya16⟩⟩ := s
    obtain ⟨K', P', ⟨wP, vP, S', D', KY⟩, hd'⟩ := hs
    show wL_record_10 post J2 (nI n) (q + 1) (nI i) xm xh xo xp xa1 xa2 xa3 xa4 xa5 xa6 xa7 xa8 xa9 xa10 xa11 xa12 xa13 xa14 xa15 xa16 ym yh yo yp ya1 ya2 ya3 ya4 ya5 ya6 ya7 ya8 ya9 ya10 ya11 ya12 ya13 ya14 ya15 ya16
    refine pk_le 4 i (fun z => absurd z (by omega)) (fun _ => ?_)
    refine cs_key K' w hn ⟨i, hi⟩ (fun u1 K1 => ?_)
    obtain ⟨zm, zh, zo, zp, za1, za2, za3, za4, za5, za6, za7, za8, za9, za10, za11, za12, za13, za14, za15, za16⟩ := u1
    refine cs_number K1 hn ⟨i, hi⟩ (fun u2 K2 => ?_)
    obtain ⟨tm, th, to, tp, ta1, ta2, ta3, ta4, ta5, ta6, ta7, ta8, ta9, ta10, ta11, ta12, ta13, ta14, ta15, ta16⟩ := u2
    rcases cs_kv_or w ⟨i, hi⟩ hn with hk | ⟨h0, j, hj, hk⟩
    · refine br_t (by rw [hk]; decide) ?_
      refine cs_write KY hn ⟨i, hi⟩ _ (fun v' KV => ?_)
      obtain ⟨rm, rh, ro, rp, ra1, ra2, ra3, ra4, ra5, ra6, ra7, ra8, ra9, ra10, ra11, ra12, ra13, ra14, ra15, ra16⟩ := v'
      refine nm_r (nI_1 i) (hw ((tm, th, to, tp, ta1, ta2, ta3, ta4, ta5, ta6, ta7, ta8, ta9, ta10, ta11, ta12, ta13, ta14, ta15, ta16), (rm, rh, ro, rp, ra1, ra2, ra3, ra4, ra5, ra6, ra7, ra8, ra9, ra10, ra11, ra12, ra13, ra14, ra15, ra16)) ⟨K2, _, ⟨cs_wf_put wP _ (Or.inl rfl), fun n' hn' => by rw [cs_v_put]; exact vP n' hn', S', D', KV⟩, ?_⟩)
      exact cs_put_kv wP vP hn ⟨i, hi⟩ (Or.inl rfl) (Or.inl ⟨rfl, rfl⟩) hk rfl rfl hd'
    · refine br_f (by rw [hk]; exact nI_pos (by omega)) ?_
      rw [hk]
      refine cs_writeKey KY hn ⟨i, hi⟩ hj (fun v' KV => ?_)
      rw [vP j hj] at KV
      obtain ⟨rm, rh, ro, rp, ra1, ra2, ra3, ra4, ra5, ra6, ra7, ra8, ra9, ra10, ra11, ra12, ra13, ra14, ra15, ra16⟩ := v'
      have hor : nI j = -1 ∨ ((0 : Int32) = 0 ∧ ∃ j', j' < 16 ∧ nI j = nI j') := Or.inr ⟨rfl, j, hj, rfl⟩
      refine nm_r (nI_1 i) (hw ((tm, th, to, tp, ta1, ta2, ta3, ta4, ta5, ta6, ta7, ta8, ta9, ta10, ta11, ta12, ta13, ta14, ta15, ta16), (rm, rh, ro, rp, ra1, ra2, ra3, ra4, ra5, ra6, ra7, ra8, ra9, ra10, ra11, ra12, ra13, ra14, ra15, ra16)) ⟨K2, _, ⟨cs_wf_put wP _ hor, fun n' hn' => by rw [cs_v_put]; exact vP n' hn', S', D', KV⟩, ?_⟩)
      exact cs_put_kv wP vP hn ⟨i, hi⟩ hor (Or.inr ⟨cs_m1 (by omega), rfl⟩) hk h0 rfl hd'
theorem cs_record {post : St2 → Prop} {P : cs_M} (w : cs_wf L) (K : cs_K b L S D (xm, xh, xo, xp, xa1, xa2, xa3, xa4, xa5, xa6, xa7, xa8, xa9, xa10, xa11, xa12, xa13, xa14, xa15, xa16)) (Y : cs_Y P (ym, yh, yo, yp, ya1, ya2, ya3, ya4, ya5, ya6, ya7, ya8, ya9, ya10, ya11, ya12, ya13, ya14, ya15, ya16))
    (H : ∀ u v P', cs_K b L S D u → cs_Y P' v → cs_eq P' L → match u, v with | (xm, xh, xo, xp, xa1, xa2, xa3, xa4, xa5, xa6, xa7, xa8, xa9, xa10, xa11, xa12, xa13, xa14, xa15, xa16), (ym, yh, yo, yp, ya1, ya2, ya3, ya4, ya5, ya6, ya7, ya8, ya9, ya10, ya11, ya12, ya13, ya14, ya15, ya16) => post (xm, xh, xo, xp, xa1, xa2, xa3, xa4, xa5, xa6, xa7, xa8, xa9, xa10, xa11, xa12, xa13, xa14, xa15, xa16, ym, yh, yo, yp, ya1, ya2, ya3, ya4, ya5, ya6, ya7, ya8, ya9, ya10, ya11, ya12, ya13, ya14, ya15, ya16)) :
    wpL_record post (xm, xh, xo, xp, xa1, xa2, xa3, xa4, xa5, xa6, xa7, xa8, xa9, xa10, xa11, xa12, xa13, xa14, xa15, xa16, ym, yh, yo, yp, ya1, ya2, ya3, ya4, ya5, ya6, ya7, ya8, ya9, ya10, ya11, ya12, ya13, ya14, ya15, ya16) := by
  refine pk_loop (fun q i (s : St1 × St1) => match s with | ((xm, xh, xo, xp, xa1, xa2, xa3, xa4, xa5, xa6, xa7, xa8, xa9, xa10, xa11, xa12, xa13, xa14, xa15, xa16), (ym, yh, yo, yp, ya1, ya2, ya3, ya4, ya5, ya6, ya7, ya8, ya9, ya10, ya11, ya12, ya13, ya14, ya15, ya16)) => wL_record_2 post q (nI i) xm xh xo xp xa1 xa2 xa3 xa4 xa5 xa6 xa7 xa8 xa9 xa10 xa11 xa12 xa13 xa14 xa15 xa16 ym yh yo yp ya1 ya2 ya3 ya4 ya5 ya6 ya7 ya8 ya9 ya10 ya11 ya12 ya13 ya14 ya15 ya16) (fun i s => cs_K b L S D s.1 ∧ ∃ P', cs_Y P' s.2 ∧ cs_done P' L i 0) 16 0 ((xm, xh, xo, xp, xa1, xa2, xa3, xa4, xa5, xa6, xa7, xa8, xa9, xa10, xa11, xa12, xa13, xa14, xa15, xa16), (ym, yh, yo, yp, ya1, ya2, ya3, ya4, ya5, ya6, ya7, ya8, ya9, ya10, ya11, ya12, ya13, ya14, ya15, ya16)) (by omega) ⟨K, P, Y, fun n' s' hn' hc => absurd hc (by omega)⟩ (fun q s hs => ?_) (fun q i s hi hs hw => ?_)
  · obtain ⟨⟨xm, xh, xo, xp, xa1, xa2, xa3, xa4, xa5, xa6, xa7, xa8, xa9, xa10, xa11, xa12, xa13, xa14, xa15, xa16⟩, ⟨ym, yh, yo, yp, ya1, ya2, ya3, ya4, ya5, ya6, ya7, ya8, ya9, ya10, ya11, ya12, ya13, ya14, ya15, ya16⟩⟩ := s
    obtain ⟨K', P', Y', hd'⟩ := hs
    show wL_record_2 post (q + 1) (nI 16) xm xh xo xp xa1 xa2 xa3 xa4 xa5 xa6 xa7 xa8 xa9 xa10 xa11 xa12 xa13 xa14 xa15 xa16 ym yh yo yp ya1 ya2 ya3 ya4 ya5 ya6 ya7 ya8 ya9 ya10 ya11 ya12 ya13 ya14 ya15 ya16
    exact pk_le 16 16 (fun _ => H (xm, xh, xo, xp, xa1, xa2, xa3, xa4, xa5, xa6, xa7, xa8, xa9, xa10, xa11, xa12, xa13, xa14, xa15, xa16) (ym, yh, yo, yp, ya1, ya2, ya3, ya4, ya5, ya6, ya7, ya8, ya9, ya10, ya11, ya12, ya13, ya14, ya15, ya16) P' K' Y' (fun n' s' hn' => hd' n' s' hn' (Or.inl hn'))) (fun z => absurd z (by omega))
  · obtain ⟨⟨xm, xh, xo, xp, xa1, xa2, xa3, xa4, xa5, xa6, xa7, xa8, xa9, xa10, xa11, xa12, xa13, xa14, xa15, xa16⟩, ⟨ym, yh, yo, yp, ya1, ya2, ya3, ya4, ya5, ya6, ya7, ya8, ya9, ya10, ya11, ya12, ya13, ya14, ya15, ya16⟩⟩ := s
    obtain ⟨K', P', Y', hd'⟩ := hs
    show wL_record_2 post (q + 1) (nI i) xm xh xo xp xa1 xa2 xa3 xa4 xa5 xa6 xa7 xa8 xa9 xa10 xa11 xa12 xa13 xa14 xa15 xa16 ym yh yo yp ya1 ya2 ya3 ya4 ya5 ya6 ya7 ya8 ya9 ya10 ya11 ya12 ya13 ya14 ya15 ya16
    refine pk_le 16 i (fun z => absurd z (by omega)) (fun _ => cs_rec10 hi w K' Y' hd' (fun u v P2 K2 Y2 hd2 => ?_))
    obtain ⟨zm, zh, zo, zp, za1, za2, za3, za4, za5, za6, za7, za8, za9, za10, za11, za12, za13, za14, za15, za16⟩ := u
    obtain ⟨tm, th, to, tp, ta1, ta2, ta3, ta4, ta5, ta6, ta7, ta8, ta9, ta10, ta11, ta12, ta13, ta14, ta15, ta16⟩ := v
    exact hw ((zm, zh, zo, zp, za1, za2, za3, za4, za5, za6, za7, za8, za9, za10, za11, za12, za13, za14, za15, za16), (tm, th, to, tp, ta1, ta2, ta3, ta4, ta5, ta6, ta7, ta8, ta9, ta10, ta11, ta12, ta13, ta14, ta15, ta16)) ⟨K2, P2, Y2, hd2⟩
theorem cs_ali10 {post : Int32 → St2 → Prop} {J2 : Int32 → Int32 → Int32 → Int32 → Int32 → (Nat → Int32) → (Nat → Int32) → (Nat → Int32) → (Nat → Int32) → (Nat → Int32) → (Nat → Int32) → (Nat → Int32) → (Nat → Int32) → (Nat → Int32) → (Nat → Int32) → (Nat → Int32) → (Nat → Int32) → (Nat → Int32) → (Nat → Int32) → (Nat → Int32) → (Nat → Int32) → Int32 → Int32 → Int32 → Int32 → (Nat → Int32) → (Nat → Int32) → (Nat → Int32) → (Nat → Int32) → (Nat → Int32) → (Nat → Int32) → (Nat → Int32) → (Nat → Int32) → (Nat → Int32) → (Nat → Int32) → (Nat → Int32) → (Nat → Int32) → (Nat → Int32) → (Nat → Int32) → (Nat → Int32) → (Nat → Int32) → Prop} {n : Nat} {P : cs_M} (hn : n < 16) (w : cs_wf L) (K : cs_K b L S D (xm, xh, xo, xp, xa1, xa2, xa3, xa4, xa5, xa6, xa7, xa8, xa9, xa10, xa11, xa12, xa13, xa14, xa15, xa16)) (Y : cs_Y P (ym, yh, yo, yp, ya1, ya2, ya3, ya4, ya5, ya6, ya7, ya8, ya9, ya10, ya11, ya12, ya13, ya14, ya15, ya16)) (he : cs_eq P L)
    (H : ∀ u v, cs_K b L S D u → cs_Y P v → match u, v with | (xm, xh, xo, xp, xa1, xa2, xa3, xa4, xa5, xa6, xa7, xa8, xa9, xa10, xa11, xa12, xa13, xa14, xa15, xa16), (ym, yh, yo, yp, ya1, ya2, ya3, ya4, ya5, ya6, ya7, ya8, ya9, ya10, ya11, ya12, ya13, ya14, ya15, ya16) => J2 (nI (n + 1)) xm xh xo xp xa1 xa2 xa3 xa4 xa5 xa6 xa7 xa8 xa9 xa10 xa11 xa12 xa13 xa14 xa15 xa16 ym yh yo yp ya1 ya2 ya3 ya4 ya5 ya6 ya7 ya8 ya9 ya10 ya11 ya12 ya13 ya14 ya15 ya16) :
    ∃ q, wL_alike_10 post J2 (nI n) q 0 xm xh xo xp xa1 xa2 xa3 xa4 xa5 xa6 xa7 xa8 xa9 xa10 xa11 xa12 xa13 xa14 xa15 xa16 ym yh yo yp ya1 ya2 ya3 ya4 ya5 ya6 ya7 ya8 ya9 ya10 ya11 ya12 ya13 ya14 ya15 ya16 := by
  refine pk_loop (fun q i (s : St1 × St1) => match s with | ((xm, xh, xo, xp, xa1, xa2, xa3, xa4, xa5, xa6, xa7, xa8, xa9, xa10, xa11, xa12, xa13, xa14, xa15, xa16), (ym, yh, yo, yp, ya1, ya2, ya3, ya4, ya5, ya6, ya7, ya8, ya9, ya10, ya11, ya12, ya13, ya14, ya15, ya16)) => wL_alike_10 post J2 (nI n) q (nI i) xm xh xo xp xa1 xa2 xa3 xa4 xa5 xa6 xa7 xa8 xa9 xa10 xa11 xa12 xa13 xa14 xa15 xa16 ym yh yo yp ya1 ya2 ya3 ya4 ya5 ya6 ya7 ya8 ya9 ya10 ya11 ya12 ya13 ya14 ya15 ya16) (fun i s => cs_K b L S D s.1 ∧ cs_Y P s.2) 4 0 ((xm, xh, xo, xp, xa1, xa2, xa3, xa4, xa5, xa6, xa7, xa8, xa9, xa10, xa11, xa12, xa13, xa14, xa15, xa16), (ym, yh, yo, yp, ya1, ya2, ya3, ya4, ya5, ya6, ya7, ya8, ya9, ya10, ya11, ya12, ya13, ya14, ya15, ya16)) (by omega) ⟨K, Y⟩ (fun q s hs => ?_) (fun q i s hi hs hw => ?_)
  · obtain ⟨⟨xm, xh, xo, xp, xa1, xa2, xa3, xa4, xa5, xa6, xa7, xa8, xa9, xa10, xa11, xa12, xa13, xa14, xa15, xa16⟩, ⟨ym, yh, yo, yp, ya1, ya2, ya3, ya4, ya5, ya6, ya7, ya8, ya9, ya10, ya11, ya12, ya13, ya14, ya15, ya16⟩⟩ := s
    obtain ⟨K', Y'⟩ := hs
    show wL_alike_10 post J2 (nI n) (q + 1) (nI 4) xm xh xo xp xa1 xa2 xa3 xa4 xa5 xa6 xa7 xa8 xa9 xa10 xa11 xa12 xa13 xa14 xa15 xa16 ym yh yo yp ya1 ya2 ya3 ya4 ya5 ya6 ya7 ya8 ya9 ya10 ya11 ya12 ya13 ya14 ya15 ya16
    exact pk_le 4 4 (fun _ => nm_r (nI_1 n) (H (xm, xh, xo, xp, xa1, xa2, xa3, xa4, xa5, xa6, xa7, xa8, xa9, xa10, xa11, xa12, xa13, xa14, xa15, xa16) (ym, yh, yo, yp, ya1, ya2, ya3, ya4, ya5, ya6, ya7, ya8, ya9, ya10, ya11, ya12, ya13, ya14, ya15, ya16) K' Y')) (fun z => absurd z (by omega))
  · obtain ⟨⟨xm, xh, xo, xp, xa1, xa2, xa3, xa4, xa5, xa6, xa7, xa8, xa9, xa10, xa11, xa12, xa13, xa14, xa15, xa16⟩, ⟨ym, yh, yo, yp, ya1, ya2, ya3, ya4, ya5, ya6, ya7, ya8, ya9, ya10, ya11, ya12, ya13, ya14, ya15, ya16⟩⟩ := s
    obtain ⟨K', wP, vP, S', D', KY⟩ := hs
    show wL_alike_10 post J2 (nI n) (q + 1) (nI i) xm xh xo xp xa1 xa2 xa3 xa4 xa5 xa6 xa7 xa8 xa9 xa10 xa11 xa12 xa13 xa14 xa15 xa16 ym yh yo yp ya1 ya2 ya3 ya4 ya5 ya6 ya7 ya8 ya9 ya10 ya11 ya12 ya13 ya14 ya15 ya16
    refine pk_le 4 i (fun z => absurd z (by omega)) (fun _ => ?_)
    have hq := he n ⟨i, hi⟩ hn
    refine cs_key K' w hn ⟨i, hi⟩ (fun u1 K1 => ?_)
    obtain ⟨zm, zh, zo, zp, za1, za2, za3, za4, za5, za6, za7, za8, za9, za10, za11, za12, za13, za14, za15, za16⟩ := u1
    refine cs_key KY wP hn ⟨i, hi⟩ (fun v1 KY1 => ?_)
    obtain ⟨tm, th, to, tp, ta1, ta2, ta3, ta4, ta5, ta6, ta7, ta8, ta9, ta10, ta11, ta12, ta13, ta14, ta15, ta16⟩ := v1
    refine br_t hq.1.symm ?_
    refine cs_number K1 hn ⟨i, hi⟩ (fun u2 K2 => ?_)
    obtain ⟨rm, rh, ro, rp, ra1, ra2, ra3, ra4, ra5, ra6, ra7, ra8, ra9, ra10, ra11, ra12, ra13, ra14, ra15, ra16⟩ := u2
    refine cs_number KY1 hn ⟨i, hi⟩ (fun v2 KY2 => ?_)
    obtain ⟨km, kh, ko, kp, ka1, ka2, ka3, ka4, ka5, ka6, ka7, ka8, ka9, ka10, ka11, ka12, ka13, ka14, ka15, ka16⟩ := v2
    exact br_t hq.2.symm (nm_r (nI_1 i) (hw ((rm, rh, ro, rp, ra1, ra2, ra3, ra4, ra5, ra6, ra7, ra8, ra9, ra10, ra11, ra12, ra13, ra14, ra15, ra16), (km, kh, ko, kp, ka1, ka2, ka3, ka4, ka5, ka6, ka7, ka8, ka9, ka10, ka11, ka12, ka13, ka14, ka15, ka16)) ⟨K2, wP, vP, S', D', KY2⟩))
theorem cs_alike {post : Int32 → St2 → Prop} {P : cs_M} (w : cs_wf L) (K : cs_K b L S D (xm, xh, xo, xp, xa1, xa2, xa3, xa4, xa5, xa6, xa7, xa8, xa9, xa10, xa11, xa12, xa13, xa14, xa15, xa16)) (Y : cs_Y P (ym, yh, yo, yp, ya1, ya2, ya3, ya4, ya5, ya6, ya7, ya8, ya9, ya10, ya11, ya12, ya13, ya14, ya15, ya16)) (he : cs_eq P L)
    (H : ∀ u v, cs_K b L S D u → cs_Y P v → match u, v with | (xm, xh, xo, xp, xa1, xa2, xa3, xa4, xa5, xa6, xa7, xa8, xa9, xa10, xa11, xa12, xa13, xa14, xa15, xa16), (ym, yh, yo, yp, ya1, ya2, ya3, ya4, ya5, ya6, ya7, ya8, ya9, ya10, ya11, ya12, ya13, ya14, ya15, ya16) => post 1 (xm, xh, xo, xp, xa1, xa2, xa3, xa4, xa5, xa6, xa7, xa8, xa9, xa10, xa11, xa12, xa13, xa14, xa15, xa16, ym, yh, yo, yp, ya1, ya2, ya3, ya4, ya5, ya6, ya7, ya8, ya9, ya10, ya11, ya12, ya13, ya14, ya15, ya16)) :
    wpL_alike post (xm, xh, xo, xp, xa1, xa2, xa3, xa4, xa5, xa6, xa7, xa8, xa9, xa10, xa11, xa12, xa13, xa14, xa15, xa16, ym, yh, yo, yp, ya1, ya2, ya3, ya4, ya5, ya6, ya7, ya8, ya9, ya10, ya11, ya12, ya13, ya14, ya15, ya16) := by
  refine pk_loop (fun q i (s : St1 × St1) => match s with | ((xm, xh, xo, xp, xa1, xa2, xa3, xa4, xa5, xa6, xa7, xa8, xa9, xa10, xa11, xa12, xa13, xa14, xa15, xa16), (ym, yh, yo, yp, ya1, ya2, ya3, ya4, ya5, ya6, ya7, ya8, ya9, ya10, ya11, ya12, ya13, ya14, ya15, ya16)) => wL_alike_2 post q (nI i) xm xh xo xp xa1 xa2 xa3 xa4 xa5 xa6 xa7 xa8 xa9 xa10 xa11 xa12 xa13 xa14 xa15 xa16 ym yh yo yp ya1 ya2 ya3 ya4 ya5 ya6 ya7 ya8 ya9 ya10 ya11 ya12 ya13 ya14 ya15 ya16) (fun i s => cs_K b L S D s.1 ∧ cs_Y P s.2) 16 0 ((xm, xh, xo, xp, xa1, xa2, xa3, xa4, xa5, xa6, xa7, xa8, xa9, xa10, xa11, xa12, xa13, xa14, xa15, xa16), (ym, yh, yo, yp, ya1, ya2, ya3, ya4, ya5, ya6, ya7, ya8, ya9, ya10, ya11, ya12, ya13, ya14, ya15, ya16)) (by omega) ⟨K, Y⟩ (fun q s hs => ?_) (fun q i s hi hs hw => ?_)
  · obtain ⟨⟨xm, xh, xo, xp, xa1, xa2, xa3, xa4, xa5, xa6, xa7, xa8, xa9, xa10, xa11, xa12, xa13, xa14, xa15, xa16⟩, ⟨ym, yh, yo, yp, ya1, ya2, ya3, ya4, ya5, ya6, ya7, ya8, ya9, ya10, ya11, ya12, ya13, ya14, ya15, ya16⟩⟩ := s
    obtain ⟨K', Y'⟩ := hs
    show wL_alike_2 post (q + 1) (nI 16) xm xh xo xp xa1 xa2 xa3 xa4 xa5 xa6 xa7 xa8 xa9 xa10 xa11 xa12 xa13 xa14 xa15 xa16 ym yh yo yp ya1 ya2 ya3 ya4 ya5 ya6 ya7 ya8 ya9 ya10 ya11 ya12 ya13 ya14 ya15 ya16
    exact pk_le 16 16 (fun _ => H (xm, xh, xo, xp, xa1, xa2, xa3, xa4, xa5, xa6, xa7, xa8, xa9, xa10, xa11, xa12, xa13, xa14, xa15, xa16) (ym, yh, yo, yp, ya1, ya2, ya3, ya4, ya5, ya6, ya7, ya8, ya9, ya10, ya11, ya12, ya13, ya14, ya15, ya16) K' Y') (fun z => absurd z (by omega))
  · obtain ⟨⟨xm, xh, xo, xp, xa1, xa2, xa3, xa4, xa5, xa6, xa7, xa8, xa9, xa10, xa11, xa12, xa13, xa14, xa15, xa16⟩, ⟨ym, yh, yo, yp, ya1, ya2, ya3, ya4, ya5, ya6, ya7, ya8, ya9, ya10, ya11, ya12, ya13, ya14, ya15, ya16⟩⟩ := s
    obtain ⟨K', Y'⟩ := hs
    show wL_alike_2 post (q + 1) (nI i) xm xh xo xp xa1 xa2 xa3 xa4 xa5 xa6 xa7 xa8 xa9 xa10 xa11 xa12 xa13 xa14 xa15 xa16 ym yh yo yp ya1 ya2 ya3 ya4 ya5 ya6 ya7 ya8 ya9 ya10 ya11 ya12 ya13 ya14 ya15 ya16
    refine pk_le 16 i (fun z => absurd z (by omega)) (fun _ => cs_ali10 hi w K' Y' he (fun u v K2 Y2 => ?_))
    obtain ⟨zm, zh, zo, zp, za1, za2, za3, za4, za5, za6, za7, za8, za9, za10, za11, za12, za13, za14, za15, za16⟩ := u
    obtain ⟨tm, th, to, tp, ta1, ta2, ta3, ta4, ta5, ta6, ta7, ta8, ta9, ta10, ta11, ta12, ta13, ta14, ta15, ta16⟩ := v
    exact hw ((zm, zh, zo, zp, za1, za2, za3, za4, za5, za6, za7, za8, za9, za10, za11, za12, za13, za14, za15, za16), (tm, th, to, tp, ta1, ta2, ta3, ta4, ta5, ta6, ta7, ta8, ta9, ta10, ta11, ta12, ta13, ta14, ta15, ta16)) ⟨K2, Y2⟩
theorem cs_change {post : St1 → Prop} (K : cs_K b L S D (xm, xh, xo, xp, xa1, xa2, xa3, xa4, xa5, xa6, xa7, xa8, xa9, xa10, xa11, xa12, xa13, xa14, xa15, xa16)) (w : cs_wf L) {k : Nat} (hk : k < 11) (c2 c3 c4 : Int32)
    (H : ∀ L' u', cs_wf L' → cs_K b L' S D u' → post u') : wpL_change post (xm, xh, xo, xp, xa1, xa2, xa3, xa4, xa5, xa6, xa7, xa8, xa9, xa10, xa11, xa12, xa13, xa14, xa15, xa16) (nI k) c2 c3 c4 := by
  obtain ⟨n, hn, en⟩ := pk_andE c2 (m := 15) 4 (by decide)
  obtain ⟨s, hs, es⟩ := pk_andE (c2 >>> ((4 : Int32) &&& 31)) (m := 3) 2 (by decide)
  obtain ⟨n', hn', en'⟩ := pk_andE c3 (m := 15) 4 (by decide)
  obtain ⟨s', hs', es'⟩ := pk_andE (c3 >>> ((4 : Int32) &&& 31)) (m := 3) 2 (by decide)
  unfold wpL_change
  refine pk_lt 2 k (fun h2 => pk_lt 6 k (fun h6 => pk_lt 8 k (fun h8 => pk_eq k 9 (fun e => ?_) (fun e => pk_eq k 10 (fun e' => ?_) (fun e' => absurd hk (by omega)))) (fun h8 => ?_)) (fun h6 => ?_)) (fun h2 => ?_)
  · rw [en]
    refine cs_rescind K w (by omega) (fun L' u' w' K' => ?_)
    obtain ⟨zm, zh, zo, zp, za1, za2, za3, za4, za5, za6, za7, za8, za9, za10, za11, za12, za13, za14, za15, za16⟩ := u'
    exact H _ _ w' K'
  · refine cs_idle K (fun u' K' => ?_)
    obtain ⟨zm, zh, zo, zp, za1, za2, za3, za4, za5, za6, za7, za8, za9, za10, za11, za12, za13, za14, za15, za16⟩ := u'
    exact H _ _ w K'
  · rw [en, es, en', es']
    refine cs_w_copy K w (by omega) ⟨s, by omega⟩ (by omega) ⟨s', by omega⟩ (fun L' u' w' K' => ?_)
    obtain ⟨zm, zh, zo, zp, za1, za2, za3, za4, za5, za6, za7, za8, za9, za10, za11, za12, za13, za14, za15, za16⟩ := u'
    exact H _ _ w' K'
  · rw [en, es, en']
    refine cs_writeKey K (by omega) ⟨s, by omega⟩ (by omega) (fun u' K' => ?_)
    obtain ⟨zm, zh, zo, zp, za1, za2, za3, za4, za5, za6, za7, za8, za9, za10, za11, za12, za13, za14, za15, za16⟩ := u'
    exact H _ _ (cs_wf_put w _ (Or.inr ⟨rfl, n', by omega, rfl⟩)) K'
  · rw [en, es]
    refine cs_write K (by omega) ⟨s, by omega⟩ c4 (fun u' K' => ?_)
    obtain ⟨zm, zh, zo, zp, za1, za2, za3, za4, za5, za6, za7, za8, za9, za10, za11, za12, za13, za14, za15, za16⟩ := u'
    exact H _ _ (cs_wf_put w _ (Or.inl rfl)) K'
end
end
section
/-- what the law's phase says -/
def cs_ph (x3 x4 : Int32) (b : Bool) (P S D : cs_M) : Prop := (x3 = 0 ∧ b = false) ∨ (x3 = 1 ∧ b = true ∧ cs_eq P S) ∨ (x3 = 2 ∧ ((x4 = 0 ∧ b = false) ∨ (x4 = 1 ∧ b = true)) ∧ cs_eq P D)
/-- the law's invariant -/
def cs_inv (x3 x4 : Int32) (u v : St1) : Prop := ∃ (b : Bool) (L S D P : cs_M), cs_wf L ∧ cs_wf S ∧ cs_wf D ∧ cs_K b L S D u ∧ cs_Y P v ∧ cs_ph x3 x4 b P S D
section
variable {post : Int32 → Prop} {N : Nat} {xs : Nat → Int32} {J24 : Int32 → Int32 → Int32 → Int32 → Int32 → Int32 → Int32 → (Nat → Int32) → (Nat → Int32) → (Nat → Int32) → (Nat → Int32) → (Nat → Int32) → (Nat → Int32) → (Nat → Int32) → (Nat → Int32) → (Nat → Int32) → (Nat → Int32) → (Nat → Int32) → (Nat → Int32) → (Nat → Int32) → (Nat → Int32) → (Nat → Int32) → (Nat → Int32) → Int32 → Int32 → Int32 → Int32 → (Nat → Int32) → (Nat → Int32) → (Nat → Int32) → (Nat → Int32) → (Nat → Int32) → (Nat → Int32) → (Nat → Int32) → (Nat → Int32) → (Nat → Int32) → (Nat → Int32) → (Nat → Int32) → (Nat → Int32) → (Nat → Int32) → (Nat → Int32) → (Nat → Int32) → (Nat → Int32) → Prop} {x3 x4 x5 x6 : Int32} {kc ks : Nat} {xm xh xo xp : Int32} {xa1 xa2 xa3 xa4 xa5 xa6 xa7 xa8 xa9 xa10 xa11 xa12 xa13 xa14 xa15 xa16 : Nat → Int32} {ym yh yo yp : Int32} {ya1 ya2 ya3 ya4 ya5 ya6 ya7 ya8 ya9 ya10 ya11 ya12 ya13 ya14 ya15 ya16 : Nat → Int32}
theorem cs_l170 (I : cs_inv x3 x4 (xm, xh, xo, xp, xa1, xa2, xa3, xa4, xa5, xa6, xa7, xa8, xa9, xa10, xa11, xa12, xa13, xa14, xa15, xa16) (ym, yh, yo, yp, ya1, ya2, ya3, ya4, ya5, ya6, ya7, ya8, ya9, ya10, ya11, ya12, ya13, ya14, ya15, ya16)) (nx : ∀ x3 x4 u v, cs_inv x3 x4 u v → match u, v with | (xm, xh, xo, xp, xa1, xa2, xa3, xa4, xa5, xa6, xa7, xa8, xa9, xa10, xa11, xa12, xa13, xa14, xa15, xa16), (ym, yh, yo, yp, ya1, ya2, ya3, ya4, ya5, ya6, ya7, ya8, ya9, ya10, ya11, ya12, ya13, ya14, ya15, ya16) => ∀ z, z = x5 + 4 → J24 x3 x4 z xm xh xo xp xa1 xa2 xa3 xa4 xa5 xa6 xa7 xa8 xa9 xa10 xa11 xa12 xa13 xa14 xa15 xa16 ym yh yo yp ya1 ya2 ya3 ya4 ya5 ya6 ya7 ya8 ya9 ya10 ya11 ya12 ya13 ya14 ya15 ya16) :
    wL_law_170 post N xs J24 x3 x4 x5 x6 kc ks xm xh xo xp xa1 xa2 xa3 xa4 xa5 xa6 xa7 xa8 xa9 xa10 xa11 xa12 xa13 xa14 xa15 xa16 ym yh yo yp ya1 ya2 ya3 ya4 ya5 ya6 ya7 ya8 ya9 ya10 ya11 ya12 ya13 ya14 ya15 ya16 := by
  unfold wL_law_170
  refine br_c (fun h15 => br_c (fun h2 => ?_) (fun h2 => nx x3 x4 (xm, xh, xo, xp, xa1, xa2, xa3, xa4, xa5, xa6, xa7, xa8, xa9, xa10, xa11, xa12, xa13, xa14, xa15, xa16) (ym, yh, yo, yp, ya1, ya2, ya3, ya4, ya5, ya6, ya7, ya8, ya9, ya10, ya11, ya12, ya13, ya14, ya15, ya16) I)) (fun h15 => nx x3 x4 (xm, xh, xo, xp, xa1, xa2, xa3, xa4, xa5, xa6, xa7, xa8, xa9, xa10, xa11, xa12, xa13, xa14, xa15, xa16) (ym, yh, yo, yp, ya1, ya2, ya3, ya4, ya5, ya6, ya7, ya8, ya9, ya10, ya11, ya12, ya13, ya14, ya15, ya16) I)
  obtain ⟨b, L, S, D, P, wL, wS, wD, K, Y, ph⟩ := I
  have he : cs_eq P D := by
    rcases ph with ⟨e, _⟩ | ⟨e, _⟩ | ⟨_, _, he⟩
    · rw [e] at h2; exact absurd h2 (by decide)
    · rw [e] at h2; exact absurd h2 (by decide)
    · exact he
  refine cs_crash K (fun u' K' => ?_)
  obtain ⟨zm, zh, zo, zp, za1, za2, za3, za4, za5, za6, za7, za8, za9, za10, za11, za12, za13, za14, za15, za16⟩ := u'
  refine cs_alike wD K' Y he (fun u2 v2 K2 Y2 => ?_)
  obtain ⟨tm, th, to, tp, ta1, ta2, ta3, ta4, ta5, ta6, ta7, ta8, ta9, ta10, ta11, ta12, ta13, ta14, ta15, ta16⟩ := u2
  obtain ⟨rm, rh, ro, rp, ra1, ra2, ra3, ra4, ra5, ra6, ra7, ra8, ra9, ra10, ra11, ra12, ra13, ra14, ra15, ra16⟩ := v2
  exact br_f (by decide) (nx 0 x4 (tm, th, to, tp, ta1, ta2, ta3, ta4, ta5, ta6, ta7, ta8, ta9, ta10, ta11, ta12, ta13, ta14, ta15, ta16) (rm, rh, ro, rp, ra1, ra2, ra3, ra4, ra5, ra6, ra7, ra8, ra9, ra10, ra11, ra12, ra13, ra14, ra15, ra16) ⟨false, D, D, D, P, wD, wD, wD, K2, Y2, Or.inl ⟨rfl, rfl⟩⟩)
end
section
variable {post : Int32 → Prop} {N : Nat} {xs : Nat → Int32} {kc ks : Nat}
/-- one turn of the law's loop -/
theorem cs_turn (h1 : post 1) (hN : N ≤ 260) {q i : Nat} {x3 x4 : Int32} {xm xh xo xp : Int32} {xa1 xa2 xa3 xa4 xa5 xa6 xa7 xa8 xa9 xa10 xa11 xa12 xa13 xa14 xa15 xa16 : Nat → Int32} {ym yh yo yp : Int32} {ya1 ya2 ya3 ya4 ya5 ya6 ya7 ya8 ya9 ya10 ya11 ya12 ya13 ya14 ya15 ya16 : Nat → Int32} (I : cs_inv x3 x4 (xm, xh, xo, xp, xa1, xa2, xa3, xa4, xa5, xa6, xa7, xa8, xa9, xa10, xa11, xa12, xa13, xa14, xa15, xa16) (ym, yh, yo, yp, ya1, ya2, ya3, ya4, ya5, ya6, ya7, ya8, ya9, ya10, ya11, ya12, ya13, ya14, ya15, ya16))
    (hw : i + 4 ≤ N → ∀ x3 x4 u v, cs_inv x3 x4 u v → match u, v with | (xm, xh, xo, xp, xa1, xa2, xa3, xa4, xa5, xa6, xa7, xa8, xa9, xa10, xa11, xa12, xa13, xa14, xa15, xa16), (ym, yh, yo, yp, ya1, ya2, ya3, ya4, ya5, ya6, ya7, ya8, ya9, ya10, ya11, ya12, ya13, ya14, ya15, ya16) => wL_law_24 post N xs kc ks q x3 x4 (nI (i + 4)) xm xh xo xp xa1 xa2 xa3 xa4 xa5 xa6 xa7 xa8 xa9 xa10 xa11 xa12 xa13 xa14 xa15 xa16 ym yh yo yp ya1 ya2 ya3 ya4 ya5 ya6 ya7 ya8 ya9 ya10 ya11 ya12 ya13 ya14 ya15 ya16) (hi : i ≤ N) :
    wL_law_24 post N xs kc ks (q + 1) x3 x4 (nI i) xm xh xo xp xa1 xa2 xa3 xa4 xa5 xa6 xa7 xa8 xa9 xa10 xa11 xa12 xa13 xa14 xa15 xa16 ym yh yo yp ya1 ya2 ya3 ya4 ya5 ya6 ya7 ya8 ya9 ya10 ya11 ya12 ya13 ya14 ya15 ya16 := by
  refine pk_lt N (i + 4) (fun _ => h1) (fun hle => ?_) rfl (nI_add i 4)
  have nx : ∀ x3 x4 u v, cs_inv x3 x4 u v → match u, v with | (xm, xh, xo, xp, xa1, xa2, xa3, xa4, xa5, xa6, xa7, xa8, xa9, xa10, xa11, xa12, xa13, xa14, xa15, xa16), (ym, yh, yo, yp, ya1, ya2, ya3, ya4, ya5, ya6, ya7, ya8, ya9, ya10, ya11, ya12, ya13, ya14, ya15, ya16) => ∀ z, z = nI i + 4 → wL_law_24 post N xs kc ks q x3 x4 z xm xh xo xp xa1 xa2 xa3 xa4 xa5 xa6 xa7 xa8 xa9 xa10 xa11 xa12 xa13 xa14 xa15 xa16 ym yh yo yp ya1 ya2 ya3 ya4 ya5 ya6 ya7 ya8 ya9 ya10 ya11 ya12 ya13 ya14 ya15 ya16 := fun x3 x4 u v hI => by
    obtain ⟨zm, zh, zo, zp, za1, za2, za3, za4, za5, za6, za7, za8, za9, za10, za11, za12, za13, za14, za15, za16⟩ := u
    obtain ⟨tm, th, to, tp, ta1, ta2, ta3, ta4, ta5, ta6, ta7, ta8, ta9, ta10, ta11, ta12, ta13, ta14, ta15, ta16⟩ := v
    exact nm_r (nI_add i 4) (hw hle x3 x4 (zm, zh, zo, zp, za1, za2, za3, za4, za5, za6, za7, za8, za9, za10, za11, za12, za13, za14, za15, za16) (tm, th, to, tp, ta1, ta2, ta3, ta4, ta5, ta6, ta7, ta8, ta9, ta10, ta11, ta12, ta13, ta14, ta15, ta16) hI)
  obtain ⟨k, hk, ek⟩ := pk_andE (xs i) (m := 15) 4 (by decide)
  have ek' : xs (nI i).toNatClampNeg &&& 15 = nI k := by rw [nI_clamp (by omega)]; exact ek
  refine ⟨pk_in i N (by omega), nm_r ek' ?_⟩
  refine pk_lt 10 k (fun h10 => pk_lt 12 k (fun h12 => pk_lt 14 k (fun h14 => cs_l170 I nx) (fun h14 => br_c (fun hx => ?_) (fun hx => cs_l170 I nx))) (fun h12 => br_c (fun hx => ?_) (fun hx => ?_))) (fun h10 => ?_)
  · obtain ⟨b, L, S, D, P, wL, wS, wD, K, Y, ph⟩ := I
    rcases ph with ⟨e, _⟩ | ⟨_, rfl, he⟩ | ⟨e, _⟩
    · rw [e] at hx; exact absurd hx (by decide)
    · refine cs_settle K (fun u' K' => ?_)
      obtain ⟨zm, zh, zo, zp, za1, za2, za3, za4, za5, za6, za7, za8, za9, za10, za11, za12, za13, za14, za15, za16⟩ := u'
      exact br_t rfl (nx 2 0 (zm, zh, zo, zp, za1, za2, za3, za4, za5, za6, za7, za8, za9, za10, za11, za12, za13, za14, za15, za16) (ym, yh, yo, yp, ya1, ya2, ya3, ya4, ya5, ya6, ya7, ya8, ya9, ya10, ya11, ya12, ya13, ya14, ya15, ya16) ⟨false, L, S, S, P, wL, wS, wS, K', Y, Or.inr (Or.inr ⟨rfl, Or.inl ⟨rfl, rfl⟩, he⟩)⟩)
    · rw [e] at hx; exact absurd hx (by decide)
  · obtain ⟨b, L, S, D, P, wL, wS, wD, K, Y, ph⟩ := I
    rcases ph with ⟨_, rfl⟩ | ⟨e, _⟩ | ⟨e, _⟩
    · refine cs_snap_yes K (fun u' K' => ?_)
      obtain ⟨zm, zh, zo, zp, za1, za2, za3, za4, za5, za6, za7, za8, za9, za10, za11, za12, za13, za14, za15, za16⟩ := u'
      refine br_t rfl (cs_record wL K' Y (fun u2 v2 P2 K2 Y2 he => ?_))
      obtain ⟨tm, th, to, tp, ta1, ta2, ta3, ta4, ta5, ta6, ta7, ta8, ta9, ta10, ta11, ta12, ta13, ta14, ta15, ta16⟩ := u2
      obtain ⟨rm, rh, ro, rp, ra1, ra2, ra3, ra4, ra5, ra6, ra7, ra8, ra9, ra10, ra11, ra12, ra13, ra14, ra15, ra16⟩ := v2
      exact nx 1 x4 (tm, th, to, tp, ta1, ta2, ta3, ta4, ta5, ta6, ta7, ta8, ta9, ta10, ta11, ta12, ta13, ta14, ta15, ta16) (rm, rh, ro, rp, ra1, ra2, ra3, ra4, ra5, ra6, ra7, ra8, ra9, ra10, ra11, ra12, ra13, ra14, ra15, ra16) ⟨true, L, L, D, P2, wL, wL, wD, K2, Y2, Or.inr (Or.inl ⟨rfl, rfl, he⟩)⟩
    · rw [e] at hx; exact absurd hx (by decide)
    · rw [e] at hx; exact absurd hx (by decide)
  · have I0 := I
    obtain ⟨b, L, S, D, P, wL, wS, wD, K, Y, ph⟩ := I
    rcases ph with ⟨e, _⟩ | ⟨e, rfl, he⟩ | ⟨e, ⟨e4, rfl⟩ | ⟨e4, rfl⟩, he⟩
    · exact absurd e hx
    · have n2 : ¬ x3 = 2 := fun h => by rw [e] at h; exact absurd h (by decide)
      refine cs_snap_no K (br_f n2 ?_)
      unfold wL_law_124 wL_law_125
      exact br_t rfl (br_f n2 (nx x3 x4 (xm, xh, xo, xp, xa1, xa2, xa3, xa4, xa5, xa6, xa7, xa8, xa9, xa10, xa11, xa12, xa13, xa14, xa15, xa16) (ym, yh, yo, yp, ya1, ya2, ya3, ya4, ya5, ya6, ya7, ya8, ya9, ya10, ya11, ya12, ya13, ya14, ya15, ya16) I0))
    · refine cs_snap_yes K (fun u' K' => ?_)
      obtain ⟨zm, zh, zo, zp, za1, za2, za3, za4, za5, za6, za7, za8, za9, za10, za11, za12, za13, za14, za15, za16⟩ := u'
      refine br_t e (br_t e4 ?_)
      unfold wL_law_125
      exact br_t rfl (br_t e (nx x3 1 (zm, zh, zo, zp, za1, za2, za3, za4, za5, za6, za7, za8, za9, za10, za11, za12, za13, za14, za15, za16) (ym, yh, yo, yp, ya1, ya2, ya3, ya4, ya5, ya6, ya7, ya8, ya9, ya10, ya11, ya12, ya13, ya14, ya15, ya16) ⟨true, L, L, D, P, wL, wL, wD, K', Y, Or.inr (Or.inr ⟨e, Or.inr ⟨rfl, rfl⟩, he⟩)⟩))
    · have n4 : ¬ x4 = 0 := fun h => by rw [e4] at h; exact absurd h (by decide)
      refine cs_snap_no K (br_t e (br_f n4 ?_))
      unfold wL_law_124 wL_law_125
      exact br_t rfl (br_t e (nx x3 1 (xm, xh, xo, xp, xa1, xa2, xa3, xa4, xa5, xa6, xa7, xa8, xa9, xa10, xa11, xa12, xa13, xa14, xa15, xa16) (ym, yh, yo, yp, ya1, ya2, ya3, ya4, ya5, ya6, ya7, ya8, ya9, ya10, ya11, ya12, ya13, ya14, ya15, ya16) ⟨true, L, S, D, P, wL, wS, wD, K, Y, Or.inr (Or.inr ⟨e, Or.inr ⟨rfl, rfl⟩, he⟩)⟩))
  · obtain ⟨b, L, S, D, P, wL, wS, wD, K, Y, ph⟩ := I
    refine ⟨pk_in (i + 1) N (by omega) (nI_add i 1), pk_in (i + 2) N (by omega) (nI_add i 2), pk_in (i + 3) N (by omega) (nI_add i 3), ?_⟩
    refine cs_change K wL (by omega) _ _ _ (fun L' u' w' K' => ?_)
    obtain ⟨zm, zh, zo, zp, za1, za2, za3, za4, za5, za6, za7, za8, za9, za10, za11, za12, za13, za14, za15, za16⟩ := u'
    exact nx x3 x4 (zm, zh, zo, zp, za1, za2, za3, za4, za5, za6, za7, za8, za9, za10, za11, za12, za13, za14, za15, za16) (ym, yh, yo, yp, ya1, ya2, ya3, ya4, ya5, ya6, ya7, ya8, ya9, ya10, ya11, ya12, ya13, ya14, ya15, ya16) ⟨b, L', S, D, P, w', wS, wD, K', Y, ph⟩
theorem cs_law (h1 : post 1) (hN : N ≤ 260) {xm xh xo xp : Int32} {xa1 xa2 xa3 xa4 xa5 xa6 xa7 xa8 xa9 xa10 xa11 xa12 xa13 xa14 xa15 xa16 : Nat → Int32} {ym yh yo yp : Int32} {ya1 ya2 ya3 ya4 ya5 ya6 ya7 ya8 ya9 ya10 ya11 ya12 ya13 ya14 ya15 ya16 : Nat → Int32} (I : cs_inv 0 0 (xm, xh, xo, xp, xa1, xa2, xa3, xa4, xa5, xa6, xa7, xa8, xa9, xa10, xa11, xa12, xa13, xa14, xa15, xa16) (ym, yh, yo, yp, ya1, ya2, ya3, ya4, ya5, ya6, ya7, ya8, ya9, ya10, ya11, ya12, ya13, ya14, ya15, ya16)) : ∃ q, wL_law_24 post N xs kc ks q 0 0 0 xm xh xo xp xa1 xa2 xa3 xa4 xa5 xa6 xa7 xa8 xa9 xa10 xa11 xa12 xa13 xa14 xa15 xa16 ym yh yo yp ya1 ya2 ya3 ya4 ya5 ya6 ya7 ya8 ya9 ya10 ya11 ya12 ya13 ya14 ya15 ya16 := by
  refine loop_m (fun q (s : Int32 × Int32 × Nat × St1 × St1) => match s with | (x3, x4, i, (xm, xh, xo, xp, xa1, xa2, xa3, xa4, xa5, xa6, xa7, xa8, xa9, xa10, xa11, xa12, xa13, xa14, xa15, xa16), (ym, yh, yo, yp, ya1, ya2, ya3, ya4, ya5, ya6, ya7, ya8, ya9, ya10, ya11, ya12, ya13, ya14, ya15, ya16)) => wL_law_24 post N xs kc ks q x3 x4 (nI i) xm xh xo xp xa1 xa2 xa3 xa4 xa5 xa6 xa7 xa8 xa9 xa10 xa11 xa12 xa13 xa14 xa15 xa16 ym yh yo yp ya1 ya2 ya3 ya4 ya5 ya6 ya7 ya8 ya9 ya10 ya11 ya12 ya13 ya14 ya15 ya16) (fun s => s.2.2.1 ≤ N ∧ cs_inv s.1 s.2.1 s.2.2.2.1 s.2.2.2.2) (fun s => N - s.2.2.1) (fun q s hs hw => ?_) (0, 0, 0, (xm, xh, xo, xp, xa1, xa2, xa3, xa4, xa5, xa6, xa7, xa8, xa9, xa10, xa11, xa12, xa13, xa14, xa15, xa16), (ym, yh, yo, yp, ya1, ya2, ya3, ya4, ya5, ya6, ya7, ya8, ya9, ya10, ya11, ya12, ya13, ya14, ya15, ya16)) ⟨Nat.zero_le _, I⟩
  obtain ⟨x3, x4, i, ⟨xm, xh, xo, xp, xa1, xa2, xa3, xa4, xa5, xa6, xa7, xa8, xa9, xa10, xa11, xa12, xa13, xa14, xa15, xa16⟩, ⟨ym, yh, yo, yp, ya1, ya2, ya3, ya4, ya5, ya6, ya7, ya8, ya9, ya10, ya11, ya12, ya13, ya14, ya15, ya16⟩⟩ := s
  obtain ⟨hi, I'⟩ := hs
  show wL_law_24 post N xs kc ks (q + 1) x3 x4 (nI i) xm xh xo xp xa1 xa2 xa3 xa4 xa5 xa6 xa7 xa8 xa9 xa10 xa11 xa12 xa13 xa14 xa15 xa16 ym yh yo yp ya1 ya2 ya3 ya4 ya5 ya6 ya7 ya8 ya9 ya10 ya11 ya12 ya13 ya14 ya15 ya16
  refine cs_turn h1 hN I' (fun hle x3' x4' u v hI => ?_) hi
  obtain ⟨zm, zh, zo, zp, za1, za2, za3, za4, za5, za6, za7, za8, za9, za10, za11, za12, za13, za14, za15, za16⟩ := u
  obtain ⟨tm, th, to, tp, ta1, ta2, ta3, ta4, ta5, ta6, ta7, ta8, ta9, ta10, ta11, ta12, ta13, ta14, ta15, ta16⟩ := v
  exact hw (x3', x4', i + 4, (zm, zh, zo, zp, za1, za2, za3, za4, za5, za6, za7, za8, za9, za10, za11, za12, za13, za14, za15, za16), (tm, th, to, tp, ta1, ta2, ta3, ta4, ta5, ta6, ta7, ta8, ta9, ta10, ta11, ta12, ta13, ta14, ta15, ta16)) ⟨hle, hI⟩ (by show N - (i + 4) < N - i; omega)
end
end
section
theorem i_vc (xs : Nat → Int32) (L : Nat) (hL : L ≤ 260) : wpL_law (fun r => r = 1) L xs := by
  refine ⟨16, 960, by decide, by decide, ?_⟩
  refine cs_init (fun u Ku => ?_)
  obtain ⟨xm, xh, xo, xp, xa1, xa2, xa3, xa4, xa5, xa6, xa7, xa8, xa9, xa10, xa11, xa12, xa13, xa14, xa15, xa16⟩ := u
  refine ⟨by decide, by decide, 16, 960, by decide, by decide, ?_⟩
  refine cs_init (fun v Kv => ?_)
  obtain ⟨ym, yh, yo, yp, ya1, ya2, ya3, ya4, ya5, ya6, ya7, ya8, ya9, ya10, ya11, ya12, ya13, ya14, ya15, ya16⟩ := v
  exact cs_law (post := fun r => r = 1) rfl hL ⟨false, cs_D0, cs_D0, cs_D0, cs_D0, cs_wf_0, cs_wf_0, cs_wf_0, Ku, ⟨cs_wf_0, fun _ _ => rfl, _, _, Kv⟩, Or.inl ⟨rfl, rfl⟩⟩
end
