set_option maxRecDepth 100000
abbrev M_J0_init : Mt := (yJ0_init, cJ0_init, 1, (Option.none : Option Jvm.ClassFile.FieldType), [])
theorem mo_J0_init : mOk M_J0_init := Or.inr ⟨rfl, (lkA q130)⟩
theorem mp_J0_init : mPl M_J0_init 0 := ⟨⟨by decide +kernel, by decide +kernel⟩, by decide +kernel, by decide +kernel⟩
theorem my_J0_init : plainName (mN M_J0_init).cls = true := by decide +kernel
abbrev M_J1_init : Mt := (yJ1_init, cJ1_init, 1, (Option.none : Option Jvm.ClassFile.FieldType), [])
theorem mo_J1_init : mOk M_J1_init := Or.inr ⟨rfl, (lkA q127)⟩
theorem mp_J1_init : mPl M_J1_init 0 := ⟨⟨by decide +kernel, by decide +kernel⟩, by decide +kernel, by decide +kernel⟩
theorem my_J1_init : plainName (mN M_J1_init).cls = true := by decide +kernel
abbrev M_J1_listIterator : Mt := (yJ1_listIterator, cJ1_listIterator, 1, (Option.some (Jvm.ClassFile.FieldType.object "java/util/ListIterator")), [])
theorem mo_J1_listIterator : mOk M_J1_listIterator := Or.inr ⟨rfl, (lkA q913)⟩
theorem mp_J1_listIterator : mPl M_J1_listIterator 0 := ⟨⟨by decide +kernel, by decide +kernel⟩, by decide +kernel, by decide +kernel⟩
theorem my_J1_listIterator : plainName (mN M_J1_listIterator).cls = true := by decide +kernel
abbrev M_J10_append : Mt := (yJ10_append, cJ10_append, 3, (Option.some (Jvm.ClassFile.FieldType.object "java/lang/AbstractStringBuilder")), [])
theorem mo_J10_append : mOk M_J10_append := Or.inr ⟨rfl, (lkA q666)⟩
theorem mp_J10_append : mPl M_J10_append 1 := ⟨⟨by decide +kernel, by decide +kernel⟩, by decide +kernel, by decide +kernel⟩
theorem my_J10_append : plainName (mN M_J10_append).cls = true := by decide +kernel
abbrev M_J10_appendNull : Mt := (yJ10_appendNull, cJ10_appendNull, 3, (Option.some (Jvm.ClassFile.FieldType.object "java/lang/AbstractStringBuilder")), [])
theorem mo_J10_appendNull : mOk M_J10_appendNull := Or.inr ⟨rfl, (lkA q670)⟩
theorem mp_J10_appendNull : mPl M_J10_appendNull 0 := ⟨⟨by decide +kernel, by decide +kernel⟩, by decide +kernel, by decide +kernel⟩
theorem my_J10_appendNull : plainName (mN M_J10_appendNull).cls = true := by decide +kernel
abbrev M_J10_append_2 : Mt := (yJ10_append_2, cJ10_append_2, 2, (Option.some (Jvm.ClassFile.FieldType.object "java/lang/AbstractStringBuilder")), [])
theorem mo_J10_append_2 : mOk M_J10_append_2 := Or.inr ⟨rfl, (lkA q1436)⟩
theorem mp_J10_append_2 : mPl M_J10_append_2 1 := ⟨⟨by decide +kernel, by decide +kernel⟩, by decide +kernel, by decide +kernel⟩
theorem my_J10_append_2 : plainName (mN M_J10_append_2).cls = true := by decide +kernel
abbrev M_J10_append_3 : Mt := (yJ10_append_3, cJ10_append_3, 4, (Option.some (Jvm.ClassFile.FieldType.object "java/lang/AbstractStringBuilder")), [])
theorem mo_J10_append_3 : mOk M_J10_append_3 := Or.inr ⟨rfl, (lkA q1739)⟩
theorem mp_J10_append_3 : mPl M_J10_append_3 1 := ⟨⟨by decide +kernel, by decide +kernel⟩, by decide +kernel, by decide +kernel⟩
theorem my_J10_append_3 : plainName (mN M_J10_append_3).cls = true := by decide +kernel
abbrev M_J10_charAt : Mt := (yJ10_charAt, cJ10_charAt, 5, (Option.some Jvm.ClassFile.FieldType.char), [])
theorem mo_J10_charAt : mOk M_J10_charAt := Or.inr ⟨rfl, (lkA q1539)⟩
theorem mp_J10_charAt : mPl M_J10_charAt 1 := ⟨⟨by decide +kernel, by decide +kernel⟩, by decide +kernel, by decide +kernel⟩
theorem my_J10_charAt : plainName (mN M_J10_charAt).cls = true := by decide +kernel
abbrev M_J10_ensureCapacityInternal : Mt := (yJ10_ensureCapacityInternal, cJ10_ensureCapacityInternal, 3, (Option.none : Option Jvm.ClassFile.FieldType), [])
theorem mo_J10_ensureCapacityInternal : mOk M_J10_ensureCapacityInternal := Or.inr ⟨rfl, (lkA q674)⟩
theorem mp_J10_ensureCapacityInternal : mPl M_J10_ensureCapacityInternal 1 := ⟨⟨by decide +kernel, by decide +kernel⟩, by decide +kernel, by decide +kernel⟩
theorem my_J10_ensureCapacityInternal : plainName (mN M_J10_ensureCapacityInternal).cls = true := by decide +kernel
abbrev M_J10_getValue : Mt := (yJ10_getValue, cJ10_getValue, 1, (Option.some (Jvm.ClassFile.FieldType.array Jvm.ClassFile.FieldType.byte)), [])
theorem mo_J10_getValue : mOk M_J10_getValue := Or.inr ⟨rfl, (lkA q781)⟩
theorem mp_J10_getValue : mPl M_J10_getValue 0 := ⟨⟨by decide +kernel, by decide +kernel⟩, by decide +kernel, by decide +kernel⟩
theorem my_J10_getValue : plainName (mN M_J10_getValue).cls = true := by decide +kernel
abbrev M_J10_inflate : Mt := (yJ10_inflate, cJ10_inflate, 2, (Option.none : Option Jvm.ClassFile.FieldType), [])
theorem mo_J10_inflate : mOk M_J10_inflate := Or.inr ⟨rfl, (lkA q741)⟩
theorem mp_J10_inflate : mPl M_J10_inflate 0 := ⟨⟨by decide +kernel, by decide +kernel⟩, by decide +kernel, by decide +kernel⟩
theorem my_J10_inflate : plainName (mN M_J10_inflate).cls = true := by decide +kernel
abbrev M_J10_inflateIfNeededFor : Mt := (yJ10_inflateIfNeededFor, cJ10_inflateIfNeededFor, 2, (Option.none : Option Jvm.ClassFile.FieldType), [])
theorem mo_J10_inflateIfNeededFor : mOk M_J10_inflateIfNeededFor := Or.inr ⟨rfl, (lkA q736)⟩
theorem mp_J10_inflateIfNeededFor : mPl M_J10_inflateIfNeededFor 1 := ⟨⟨by decide +kernel, by decide +kernel⟩, by decide +kernel, by decide +kernel⟩
theorem my_J10_inflateIfNeededFor : plainName (mN M_J10_inflateIfNeededFor).cls = true := by decide +kernel
abbrev M_J10_init : Mt := (yJ10_init, cJ10_init, 2, (Option.none : Option Jvm.ClassFile.FieldType), [])
theorem mo_J10_init : mOk M_J10_init := Or.inr ⟨rfl, (lkA q377)⟩
theorem mp_J10_init : mPl M_J10_init 1 := ⟨⟨by decide +kernel, by decide +kernel⟩, by decide +kernel, by decide +kernel⟩
theorem my_J10_init : plainName (mN M_J10_init).cls = true := by decide +kernel
abbrev M_J10_isLatin1 : Mt := (yJ10_isLatin1, cJ10_isLatin1, 1, (Option.some Jvm.ClassFile.FieldType.boolean), [])
theorem mo_J10_isLatin1 : mOk M_J10_isLatin1 := Or.inr ⟨rfl, (lkA q693)⟩
theorem mp_J10_isLatin1 : mPl M_J10_isLatin1 0 := ⟨⟨by decide +kernel, by decide +kernel⟩, by decide +kernel, by decide +kernel⟩
theorem my_J10_isLatin1 : plainName (mN M_J10_isLatin1).cls = true := by decide +kernel
abbrev M_J10_length : Mt := (yJ10_length, cJ10_length, 1, (Option.some Jvm.ClassFile.FieldType.int), [])
theorem mo_J10_length : mOk M_J10_length := Or.inr ⟨rfl, (lkA q789)⟩
theorem mp_J10_length : mPl M_J10_length 0 := ⟨⟨by decide +kernel, by decide +kernel⟩, by decide +kernel, by decide +kernel⟩
theorem my_J10_length : plainName (mN M_J10_length).cls = true := by decide +kernel
abbrev M_J10_newCapacity : Mt := (yJ10_newCapacity, cJ10_newCapacity, 6, (Option.some Jvm.ClassFile.FieldType.int), [])
theorem mo_J10_newCapacity : mOk M_J10_newCapacity := Or.inr ⟨rfl, (lkA q678)⟩
theorem mp_J10_newCapacity : mPl M_J10_newCapacity 1 := ⟨⟨by decide +kernel, by decide +kernel⟩, by decide +kernel, by decide +kernel⟩
theorem my_J10_newCapacity : plainName (mN M_J10_newCapacity).cls = true := by decide +kernel
abbrev M_J10_putStringAt : Mt := (yJ10_putStringAt, cJ10_putStringAt, 3, (Option.none : Option Jvm.ClassFile.FieldType), [])
theorem mo_J10_putStringAt : mOk M_J10_putStringAt := Or.inr ⟨rfl, (lkA q732)⟩
theorem mp_J10_putStringAt : mPl M_J10_putStringAt 2 := ⟨⟨by decide +kernel, by decide +kernel⟩, by decide +kernel, by decide +kernel⟩
theorem my_J10_putStringAt : plainName (mN M_J10_putStringAt).cls = true := by decide +kernel
abbrev M_J10_setLength : Mt := (yJ10_setLength, cJ10_setLength, 2, (Option.none : Option Jvm.ClassFile.FieldType), [])
theorem mo_J10_setLength : mOk M_J10_setLength := Or.inr ⟨rfl, (lkA q1707)⟩
theorem mp_J10_setLength : mPl M_J10_setLength 1 := ⟨⟨by decide +kernel, by decide +kernel⟩, by decide +kernel, by decide +kernel⟩
theorem my_J10_setLength : plainName (mN M_J10_setLength).cls = true := by decide +kernel
abbrev M_J11_append : Mt := (yJ11_append, cJ11_append, 2, (Option.some (Jvm.ClassFile.FieldType.object "java/lang/StringBuilder")), [])
theorem mo_J11_append : mOk M_J11_append := Or.inr ⟨rfl, (lkA q663)⟩
theorem mp_J11_append : mPl M_J11_append 1 := ⟨⟨by decide +kernel, by decide +kernel⟩, by decide +kernel, by decide +kernel⟩
theorem my_J11_append : plainName (mN M_J11_append).cls = true := by decide +kernel
abbrev M_J11_append_2 : Mt := (yJ11_append_2, cJ11_append_2, 2, (Option.some (Jvm.ClassFile.FieldType.object "java/lang/StringBuilder")), [])
theorem mo_J11_append_2 : mOk M_J11_append_2 := Or.inr ⟨rfl, (lkA q1433)⟩
theorem mp_J11_append_2 : mPl M_J11_append_2 1 := ⟨⟨by decide +kernel, by decide +kernel⟩, by decide +kernel, by decide +kernel⟩
theorem my_J11_append_2 : plainName (mN M_J11_append_2).cls = true := by decide +kernel
abbrev M_J11_append_3 : Mt := (yJ11_append_3, cJ11_append_3, 2, (Option.some (Jvm.ClassFile.FieldType.object "java/lang/StringBuilder")), [])
theorem mo_J11_append_3 : mOk M_J11_append_3 := Or.inr ⟨rfl, (lkA q1736)⟩
theorem mp_J11_append_3 : mPl M_J11_append_3 1 := ⟨⟨by decide +kernel, by decide +kernel⟩, by decide +kernel, by decide +kernel⟩
theorem my_J11_append_3 : plainName (mN M_J11_append_3).cls = true := by decide +kernel
abbrev M_J11_charAt : Mt := (yJ11_charAt, cJ11_charAt, 2, (Option.some Jvm.ClassFile.FieldType.char), [])
theorem mo_J11_charAt : mOk M_J11_charAt := Or.inr ⟨rfl, (lkA q1536)⟩
theorem mp_J11_charAt : mPl M_J11_charAt 1 := ⟨⟨by decide +kernel, by decide +kernel⟩, by decide +kernel, by decide +kernel⟩
theorem my_J11_charAt : plainName (mN M_J11_charAt).cls = true := by decide +kernel
abbrev M_J11_init : Mt := (yJ11_init, cJ11_init, 1, (Option.none : Option Jvm.ClassFile.FieldType), [])
theorem mo_J11_init : mOk M_J11_init := Or.inr ⟨rfl, (lkA q374)⟩
theorem mp_J11_init : mPl M_J11_init 0 := ⟨⟨by decide +kernel, by decide +kernel⟩, by decide +kernel, by decide +kernel⟩
theorem my_J11_init : plainName (mN M_J11_init).cls = true := by decide +kernel
abbrev M_J11_length : Mt := (yJ11_length, cJ11_length, 1, (Option.some Jvm.ClassFile.FieldType.int), [])
theorem mo_J11_length : mOk M_J11_length := Or.inr ⟨rfl, (lkA q787)⟩
theorem mp_J11_length : mPl M_J11_length 0 := ⟨⟨by decide +kernel, by decide +kernel⟩, by decide +kernel, by decide +kernel⟩
theorem my_J11_length : plainName (mN M_J11_length).cls = true := by decide +kernel
abbrev M_J11_setLength : Mt := (yJ11_setLength, cJ11_setLength, 2, (Option.none : Option Jvm.ClassFile.FieldType), [])
theorem mo_J11_setLength : mOk M_J11_setLength := Or.inr ⟨rfl, (lkA q1704)⟩
theorem mp_J11_setLength : mPl M_J11_setLength 1 := ⟨⟨by decide +kernel, by decide +kernel⟩, by decide +kernel, by decide +kernel⟩
theorem my_J11_setLength : plainName (mN M_J11_setLength).cls = true := by decide +kernel
abbrev M_J11_toString : Mt := (yJ11_toString, cJ11_toString, 1, (Option.some (Jvm.ClassFile.FieldType.object "java/lang/String")), [])
theorem mo_J11_toString : mOk M_J11_toString := Or.inr ⟨rfl, (lkA q767)⟩
theorem mp_J11_toString : mPl M_J11_toString 0 := ⟨⟨by decide +kernel, by decide +kernel⟩, by decide +kernel, by decide +kernel⟩
theorem my_J11_toString : plainName (mN M_J11_toString).cls = true := by decide +kernel
abbrev M_J12_charAt : Mt := (yJ12_charAt, cJ12_charAt, 2, (Option.some Jvm.ClassFile.FieldType.char), [])
theorem mo_J12_charAt : mOk M_J12_charAt := Or.inr ⟨rfl, (lkA q1520)⟩
theorem mp_J12_charAt : mPl M_J12_charAt 1 := ⟨⟨by decide +kernel, by decide +kernel⟩, by decide +kernel, by decide +kernel⟩
theorem my_J12_charAt : plainName (mN M_J12_charAt).cls = true := by decide +kernel
abbrev M_J12_checkBoundsBeginEnd : Mt := (yJ12_checkBoundsBeginEnd, cJ12_checkBoundsBeginEnd, 3, (Option.none : Option Jvm.ClassFile.FieldType), [])
theorem mo_J12_checkBoundsBeginEnd : mOk M_J12_checkBoundsBeginEnd := Or.inr ⟨rfl, (lkA q705)⟩
theorem mp_J12_checkBoundsBeginEnd : mPl M_J12_checkBoundsBeginEnd 3 := ⟨⟨by decide +kernel, by decide +kernel⟩, by decide +kernel, by decide +kernel⟩
theorem my_J12_checkBoundsBeginEnd : plainName (mN M_J12_checkBoundsBeginEnd).cls = true := by decide +kernel
abbrev M_J12_checkBoundsOffCount : Mt := (yJ12_checkBoundsOffCount, cJ12_checkBoundsOffCount, 3, (Option.some Jvm.ClassFile.FieldType.int), [])
theorem mo_J12_checkBoundsOffCount : mOk M_J12_checkBoundsOffCount := Or.inr ⟨rfl, (lkA q753)⟩
theorem mp_J12_checkBoundsOffCount : mPl M_J12_checkBoundsOffCount 3 := ⟨⟨by decide +kernel, by decide +kernel⟩, by decide +kernel, by decide +kernel⟩
theorem my_J12_checkBoundsOffCount : plainName (mN M_J12_checkBoundsOffCount).cls = true := by decide +kernel
abbrev M_J12_checkIndex : Mt := (yJ12_checkIndex, cJ12_checkIndex, 2, (Option.none : Option Jvm.ClassFile.FieldType), [])
theorem mo_J12_checkIndex : mOk M_J12_checkIndex := Or.inr ⟨rfl, (lkA q1448)⟩
theorem mp_J12_checkIndex : mPl M_J12_checkIndex 2 := ⟨⟨by decide +kernel, by decide +kernel⟩, by decide +kernel, by decide +kernel⟩
theorem my_J12_checkIndex : plainName (mN M_J12_checkIndex).cls = true := by decide +kernel
abbrev M_J12_coder : Mt := (yJ12_coder, cJ12_coder, 1, (Option.some Jvm.ClassFile.FieldType.byte), [])
theorem mo_J12_coder : mOk M_J12_coder := Or.inr ⟨rfl, (lkA q727)⟩
theorem mp_J12_coder : mPl M_J12_coder 0 := ⟨⟨by decide +kernel, by decide +kernel⟩, by decide +kernel, by decide +kernel⟩
theorem my_J12_coder : plainName (mN M_J12_coder).cls = true := by decide +kernel
abbrev M_J12_equals : Mt := (yJ12_equals, cJ12_equals, 3, (Option.some Jvm.ClassFile.FieldType.boolean), [])
theorem mo_J12_equals : mOk M_J12_equals := Or.inr ⟨rfl, (lkA q1645)⟩
theorem mp_J12_equals : mPl M_J12_equals 1 := ⟨⟨by decide +kernel, by decide +kernel⟩, by decide +kernel, by decide +kernel⟩
theorem my_J12_equals : plainName (mN M_J12_equals).cls = true := by decide +kernel
abbrev M_J12_getBytes : Mt := (yJ12_getBytes, cJ12_getBytes, 4, (Option.none : Option Jvm.ClassFile.FieldType), [])
theorem mo_J12_getBytes : mOk M_J12_getBytes := Or.inr ⟨rfl, (lkA q760)⟩
theorem mp_J12_getBytes : mPl M_J12_getBytes 3 := ⟨⟨by decide +kernel, by decide +kernel⟩, by decide +kernel, by decide +kernel⟩
theorem my_J12_getBytes : plainName (mN M_J12_getBytes).cls = true := by decide +kernel
abbrev M_J12_hashCode : Mt := (yJ12_hashCode, cJ12_hashCode, 2, (Option.some Jvm.ClassFile.FieldType.int), [])
theorem mo_J12_hashCode : mOk M_J12_hashCode := Or.inr ⟨rfl, (lkA q1596)⟩
theorem mp_J12_hashCode : mPl M_J12_hashCode 0 := ⟨⟨by decide +kernel, by decide +kernel⟩, by decide +kernel, by decide +kernel⟩
theorem my_J12_hashCode : plainName (mN M_J12_hashCode).cls = true := by decide +kernel
abbrev M_J12_init : Mt := (yJ12_init, cJ12_init, 2, (Option.none : Option Jvm.ClassFile.FieldType), [])
theorem mo_J12_init : mOk M_J12_init := Or.inr ⟨rfl, (lkA q772)⟩
theorem mp_J12_init : mPl M_J12_init 1 := ⟨⟨by decide +kernel, by decide +kernel⟩, by decide +kernel, by decide +kernel⟩
theorem my_J12_init : plainName (mN M_J12_init).cls = true := by decide +kernel
abbrev M_J12_init_2 : Mt := (yJ12_init_2, cJ12_init_2, 5, (Option.none : Option Jvm.ClassFile.FieldType), [])
theorem mo_J12_init_2 : mOk M_J12_init_2 := Or.inr ⟨rfl, (lkA q775)⟩
theorem mp_J12_init_2 : mPl M_J12_init_2 2 := ⟨⟨by decide +kernel, by decide +kernel⟩, by decide +kernel, by decide +kernel⟩
theorem my_J12_init_2 : plainName (mN M_J12_init_2).cls = true := by decide +kernel
abbrev M_J12_isLatin1 : Mt := (yJ12_isLatin1, cJ12_isLatin1, 1, (Option.some Jvm.ClassFile.FieldType.boolean), [])
theorem mo_J12_isLatin1 : mOk M_J12_isLatin1 := Or.inr ⟨rfl, (lkA q1524)⟩
theorem mp_J12_isLatin1 : mPl M_J12_isLatin1 0 := ⟨⟨by decide +kernel, by decide +kernel⟩, by decide +kernel, by decide +kernel⟩
theorem my_J12_isLatin1 : plainName (mN M_J12_isLatin1).cls = true := by decide +kernel
abbrev M_J12_length : Mt := (yJ12_length, cJ12_length, 1, (Option.some Jvm.ClassFile.FieldType.int), [])
theorem mo_J12_length : mOk M_J12_length := Or.inr ⟨rfl, (lkA q723)⟩
theorem mp_J12_length : mPl M_J12_length 0 := ⟨⟨by decide +kernel, by decide +kernel⟩, by decide +kernel, by decide +kernel⟩
theorem my_J12_length : plainName (mN M_J12_length).cls = true := by decide +kernel
abbrev M_J13_charAt : Mt := (yJ13_charAt, cJ13_charAt, 2, (Option.some Jvm.ClassFile.FieldType.char), [])
theorem mo_J13_charAt : mOk M_J13_charAt := Or.inr ⟨rfl, (lkA q1531)⟩
theorem mp_J13_charAt : mPl M_J13_charAt 2 := ⟨⟨by decide +kernel, by decide +kernel⟩, by decide +kernel, by decide +kernel⟩
theorem my_J13_charAt : plainName (mN M_J13_charAt).cls = true := by decide +kernel
abbrev M_J13_checkBoundsBeginEnd : Mt := (yJ13_checkBoundsBeginEnd, cJ13_checkBoundsBeginEnd, 3, (Option.none : Option Jvm.ClassFile.FieldType), [])
theorem mo_J13_checkBoundsBeginEnd : mOk M_J13_checkBoundsBeginEnd := Or.inr ⟨rfl, (lkA q699)⟩
theorem mp_J13_checkBoundsBeginEnd : mPl M_J13_checkBoundsBeginEnd 3 := ⟨⟨by decide +kernel, by decide +kernel⟩, by decide +kernel, by decide +kernel⟩
theorem my_J13_checkBoundsBeginEnd : plainName (mN M_J13_checkBoundsBeginEnd).cls = true := by decide +kernel
abbrev M_J13_checkBoundsOffCount : Mt := (yJ13_checkBoundsOffCount, cJ13_checkBoundsOffCount, 3, (Option.none : Option Jvm.ClassFile.FieldType), [])
theorem mo_J13_checkBoundsOffCount : mOk M_J13_checkBoundsOffCount := Or.inr ⟨rfl, (lkA q750)⟩
theorem mp_J13_checkBoundsOffCount : mPl M_J13_checkBoundsOffCount 3 := ⟨⟨by decide +kernel, by decide +kernel⟩, by decide +kernel, by decide +kernel⟩
theorem my_J13_checkBoundsOffCount : plainName (mN M_J13_checkBoundsOffCount).cls = true := by decide +kernel
abbrev M_J13_checkIndex : Mt := (yJ13_checkIndex, cJ13_checkIndex, 2, (Option.none : Option Jvm.ClassFile.FieldType), [])
theorem mo_J13_checkIndex : mOk M_J13_checkIndex := Or.inr ⟨rfl, (lkA q1445)⟩
theorem mp_J13_checkIndex : mPl M_J13_checkIndex 2 := ⟨⟨by decide +kernel, by decide +kernel⟩, by decide +kernel, by decide +kernel⟩
theorem my_J13_checkIndex : plainName (mN M_J13_checkIndex).cls = true := by decide +kernel
abbrev M_J13_coderFromArrayLen : Mt := (yJ13_coderFromArrayLen, cJ13_coderFromArrayLen, 2, (Option.some Jvm.ClassFile.FieldType.byte), [])
theorem mo_J13_coderFromArrayLen : mOk M_J13_coderFromArrayLen := Or.inr ⟨rfl, (lkA q812)⟩
theorem mp_J13_coderFromArrayLen : mPl M_J13_coderFromArrayLen 2 := ⟨⟨by decide +kernel, by decide +kernel⟩, by decide +kernel, by decide +kernel⟩
theorem my_J13_coderFromArrayLen : plainName (mN M_J13_coderFromArrayLen).cls = true := by decide +kernel
abbrev M_J13_compress : Mt := (yJ13_compress, cJ13_compress, 6, (Option.some (Jvm.ClassFile.FieldType.array Jvm.ClassFile.FieldType.byte)), [])
theorem mo_J13_compress : mOk M_J13_compress := Or.inr ⟨rfl, (lkA q802)⟩
theorem mp_J13_compress : mPl M_J13_compress 3 := ⟨⟨by decide +kernel, by decide +kernel⟩, by decide +kernel, by decide +kernel⟩
theorem my_J13_compress : plainName (mN M_J13_compress).cls = true := by decide +kernel
abbrev M_J13_compress_2 : Mt := (yJ13_compress_2, cJ13_compress_2, 7, (Option.some Jvm.ClassFile.FieldType.int), [])
theorem mo_J13_compress_2 : mOk M_J13_compress_2 := Or.inr ⟨rfl, (lkA q805)⟩
theorem mp_J13_compress_2 : mPl M_J13_compress_2 5 := ⟨⟨by decide +kernel, by decide +kernel⟩, by decide +kernel, by decide +kernel⟩
theorem my_J13_compress_2 : plainName (mN M_J13_compress_2).cls = true := by decide +kernel
abbrev M_J13_fillNull : Mt := (yJ13_fillNull, cJ13_fillNull, 3, (Option.none : Option Jvm.ClassFile.FieldType), [])
theorem mo_J13_fillNull : mOk M_J13_fillNull := Or.inr ⟨rfl, (lkA q1719)⟩
theorem mp_J13_fillNull : mPl M_J13_fillNull 3 := ⟨⟨by decide +kernel, by decide +kernel⟩, by decide +kernel, by decide +kernel⟩
theorem my_J13_fillNull : plainName (mN M_J13_fillNull).cls = true := by decide +kernel
abbrev M_J13_getChar : Mt := (yJ13_getChar, cJ13_getChar, 2, (Option.some Jvm.ClassFile.FieldType.char), [])
theorem mo_J13_getChar : mOk M_J13_getChar := Or.inr ⟨rfl, (lkA q808)⟩
theorem mp_J13_getChar : mPl M_J13_getChar 2 := ⟨⟨by decide +kernel, by decide +kernel⟩, by decide +kernel, by decide +kernel⟩
theorem my_J13_getChar : plainName (mN M_J13_getChar).cls = true := by decide +kernel
abbrev M_J13_getChars : Mt := (yJ13_getChars, cJ13_getChars, 5, (Option.some Jvm.ClassFile.FieldType.int), [])
theorem mo_J13_getChars : mOk M_J13_getChars := Or.inr ⟨rfl, (lkA q1752)⟩
theorem mp_J13_getChars : mPl M_J13_getChars 4 := ⟨⟨by decide +kernel, by decide +kernel⟩, by decide +kernel, by decide +kernel⟩
theorem my_J13_getChars : plainName (mN M_J13_getChars).cls = true := by decide +kernel
abbrev M_J13_getChars_2 : Mt := (yJ13_getChars_2, cJ13_getChars_2, 7, (Option.some Jvm.ClassFile.FieldType.int), [])
theorem mo_J13_getChars_2 : mOk M_J13_getChars_2 := Or.inr ⟨rfl, (lkA q1755)⟩
theorem mp_J13_getChars_2 : mPl M_J13_getChars_2 3 := ⟨⟨by decide +kernel, by decide +kernel⟩, by decide +kernel, by decide +kernel⟩
theorem my_J13_getChars_2 : plainName (mN M_J13_getChars_2).cls = true := by decide +kernel
abbrev M_J13_hashCode : Mt := (yJ13_hashCode, cJ13_hashCode, 1, (Option.some Jvm.ClassFile.FieldType.int), [])
theorem mo_J13_hashCode : mOk M_J13_hashCode := Or.inr ⟨rfl, (lkA q1640)⟩
theorem mp_J13_hashCode : mPl M_J13_hashCode 1 := ⟨⟨by decide +kernel, by decide +kernel⟩, by decide +kernel, by decide +kernel⟩
theorem my_J13_hashCode : plainName (mN M_J13_hashCode).cls = true := by decide +kernel
abbrev M_J13_inflate : Mt := (yJ13_inflate, cJ13_inflate, 6, (Option.none : Option Jvm.ClassFile.FieldType), [])
theorem mo_J13_inflate : mOk M_J13_inflate := Or.inr ⟨rfl, (lkA q747)⟩
theorem mp_J13_inflate : mPl M_J13_inflate 5 := ⟨⟨by decide +kernel, by decide +kernel⟩, by decide +kernel, by decide +kernel⟩
theorem my_J13_inflate : plainName (mN M_J13_inflate).cls = true := by decide +kernel
abbrev M_J13_length : Mt := (yJ13_length, cJ13_length, 1, (Option.some Jvm.ClassFile.FieldType.int), [])
theorem mo_J13_length : mOk M_J13_length := Or.inr ⟨rfl, (lkA q702)⟩
theorem mp_J13_length : mPl M_J13_length 1 := ⟨⟨by decide +kernel, by decide +kernel⟩, by decide +kernel, by decide +kernel⟩
theorem my_J13_length : plainName (mN M_J13_length).cls = true := by decide +kernel
abbrev M_J13_newBytesFor : Mt := (yJ13_newBytesFor, cJ13_newBytesFor, 1, (Option.some (Jvm.ClassFile.FieldType.array Jvm.ClassFile.FieldType.byte)), [])
theorem mo_J13_newBytesFor : mOk M_J13_newBytesFor := Or.inr ⟨rfl, (lkA q383)⟩
theorem mp_J13_newBytesFor : mPl M_J13_newBytesFor 1 := ⟨⟨by decide +kernel, by decide +kernel⟩, by decide +kernel, by decide +kernel⟩
theorem my_J13_newBytesFor : plainName (mN M_J13_newBytesFor).cls = true := by decide +kernel
abbrev M_J13_newBytesLength : Mt := (yJ13_newBytesLength, cJ13_newBytesLength, 1, (Option.some Jvm.ClassFile.FieldType.int), [])
theorem mo_J13_newBytesLength : mOk M_J13_newBytesLength := Or.inr ⟨rfl, (lkA q386)⟩
theorem mp_J13_newBytesLength : mPl M_J13_newBytesLength 1 := ⟨⟨by decide +kernel, by decide +kernel⟩, by decide +kernel, by decide +kernel⟩
theorem my_J13_newBytesLength : plainName (mN M_J13_newBytesLength).cls = true := by decide +kernel
abbrev M_J13_putChar : Mt := (yJ13_putChar, cJ13_putChar, 3, (Option.none : Option Jvm.ClassFile.FieldType), [])
theorem mo_J13_putChar : mOk M_J13_putChar := Or.inr ⟨rfl, (lkA q713)⟩
theorem mp_J13_putChar : mPl M_J13_putChar 3 := ⟨⟨by decide +kernel, by decide +kernel⟩, by decide +kernel, by decide +kernel⟩
theorem my_J13_putChar : plainName (mN M_J13_putChar).cls = true := by decide +kernel
abbrev M_J13_putCharSB : Mt := (yJ13_putCharSB, cJ13_putCharSB, 3, (Option.none : Option Jvm.ClassFile.FieldType), [])
theorem mo_J13_putCharSB : mOk M_J13_putCharSB := Or.inr ⟨rfl, (lkA q1442)⟩
theorem mp_J13_putCharSB : mPl M_J13_putCharSB 3 := ⟨⟨by decide +kernel, by decide +kernel⟩, by decide +kernel, by decide +kernel⟩
theorem my_J13_putCharSB : plainName (mN M_J13_putCharSB).cls = true := by decide +kernel
abbrev M_J13_putCharsAt : Mt := (yJ13_putCharsAt, cJ13_putCharsAt, 7, (Option.some Jvm.ClassFile.FieldType.int), [])
theorem mo_J13_putCharsAt : mOk M_J13_putCharsAt := Or.inr ⟨rfl, (lkA q696)⟩
theorem mp_J13_putCharsAt : mPl M_J13_putCharsAt 6 := ⟨⟨by decide +kernel, by decide +kernel⟩, by decide +kernel, by decide +kernel⟩
theorem my_J13_putCharsAt : plainName (mN M_J13_putCharsAt).cls = true := by decide +kernel
abbrev M_J14_checkIndex : Mt := (yJ14_checkIndex, cJ14_checkIndex, 2, (Option.some Jvm.ClassFile.FieldType.int), [])
theorem mo_J14_checkIndex : mOk M_J14_checkIndex := Or.inr ⟨rfl, (lkA q446)⟩
theorem mp_J14_checkIndex : mPl M_J14_checkIndex 2 := ⟨⟨by decide +kernel, by decide +kernel⟩, by decide +kernel, by decide +kernel⟩
theorem my_J14_checkIndex : plainName (mN M_J14_checkIndex).cls = true := by decide +kernel
abbrev M_J15_checkFromIndexSize : Mt := (yJ15_checkFromIndexSize, cJ15_checkFromIndexSize, 4, (Option.some Jvm.ClassFile.FieldType.int), [])
theorem mo_J15_checkFromIndexSize : mOk M_J15_checkFromIndexSize := Or.inr ⟨rfl, (lkA q756)⟩
theorem mp_J15_checkFromIndexSize : mPl M_J15_checkFromIndexSize 4 := ⟨⟨by decide +kernel, by decide +kernel⟩, by decide +kernel, by decide +kernel⟩
theorem my_J15_checkFromIndexSize : plainName (mN M_J15_checkFromIndexSize).cls = true := by decide +kernel
abbrev M_J15_checkFromToIndex : Mt := (yJ15_checkFromToIndex, cJ15_checkFromToIndex, 4, (Option.some Jvm.ClassFile.FieldType.int), [])
theorem mo_J15_checkFromToIndex : mOk M_J15_checkFromToIndex := Or.inr ⟨rfl, (lkA q710)⟩
theorem mp_J15_checkFromToIndex : mPl M_J15_checkFromToIndex 4 := ⟨⟨by decide +kernel, by decide +kernel⟩, by decide +kernel, by decide +kernel⟩
theorem my_J15_checkFromToIndex : plainName (mN M_J15_checkFromToIndex).cls = true := by decide +kernel
abbrev M_J15_checkIndex : Mt := (yJ15_checkIndex, cJ15_checkIndex, 3, (Option.some Jvm.ClassFile.FieldType.int), [])
theorem mo_J15_checkIndex : mOk M_J15_checkIndex := Or.inr ⟨rfl, (lkA q449)⟩
theorem mp_J15_checkIndex : mPl M_J15_checkIndex 3 := ⟨⟨by decide +kernel, by decide +kernel⟩, by decide +kernel, by decide +kernel⟩
theorem my_J15_checkIndex : plainName (mN M_J15_checkIndex).cls = true := by decide +kernel
abbrev M_J16_checkForComodification : Mt := (yJ16_checkForComodification, cJ16_checkForComodification, 1, (Option.none : Option Jvm.ClassFile.FieldType), [])
theorem mo_J16_checkForComodification : mOk M_J16_checkForComodification := Or.inr ⟨rfl, (lkA q849)⟩
theorem mp_J16_checkForComodification : mPl M_J16_checkForComodification 0 := ⟨⟨by decide +kernel, by decide +kernel⟩, by decide +kernel, by decide +kernel⟩
theorem my_J16_checkForComodification : plainName (mN M_J16_checkForComodification).cls = true := by decide +kernel
abbrev M_J16_hasNext : Mt := (yJ16_hasNext, cJ16_hasNext, 1, (Option.some Jvm.ClassFile.FieldType.boolean), [])
theorem mo_J16_hasNext : mOk M_J16_hasNext := Or.inr ⟨rfl, (lkA q540)⟩
theorem mp_J16_hasNext : mPl M_J16_hasNext 0 := ⟨⟨by decide +kernel, by decide +kernel⟩, by decide +kernel, by decide +kernel⟩
theorem my_J16_hasNext : plainName (mN M_J16_hasNext).cls = true := by decide +kernel
abbrev M_J16_init : Mt := (yJ16_init, cJ16_init, 2, (Option.none : Option Jvm.ClassFile.FieldType), [])
theorem mo_J16_init : mOk M_J16_init := Or.inr ⟨rfl, (lkA q499)⟩
theorem mp_J16_init : mPl M_J16_init 1 := ⟨⟨by decide +kernel, by decide +kernel⟩, by decide +kernel, by decide +kernel⟩
theorem my_J16_init : plainName (mN M_J16_init).cls = true := by decide +kernel
abbrev M_J16_next : Mt := (yJ16_next, cJ16_next, 3, (Option.some (Jvm.ClassFile.FieldType.object "java/lang/Object")), [])
theorem mo_J16_next : mOk M_J16_next := Or.inr ⟨rfl, (lkA q843)⟩
theorem mp_J16_next : mPl M_J16_next 0 := ⟨⟨by decide +kernel, by decide +kernel⟩, by decide +kernel, by decide +kernel⟩
theorem my_J16_next : plainName (mN M_J16_next).cls = true := by decide +kernel
abbrev M_J17_getLocalizedMessage : Mt := (yJ17_getLocalizedMessage, cJ17_getLocalizedMessage, 1, (Option.some (Jvm.ClassFile.FieldType.object "java/lang/String")), [])
theorem mo_J17_getLocalizedMessage : mOk M_J17_getLocalizedMessage := Or.inr ⟨rfl, (lkA q650)⟩
theorem mp_J17_getLocalizedMessage : mPl M_J17_getLocalizedMessage 0 := ⟨⟨by decide +kernel, by decide +kernel⟩, by decide +kernel, by decide +kernel⟩
theorem my_J17_getLocalizedMessage : plainName (mN M_J17_getLocalizedMessage).cls = true := by decide +kernel
abbrev M_J17_getMessage : Mt := (yJ17_getMessage, cJ17_getMessage, 1, (Option.some (Jvm.ClassFile.FieldType.object "java/lang/String")), [])
theorem mo_J17_getMessage : mOk M_J17_getMessage := Or.inr ⟨rfl, (lkA q657)⟩
theorem mp_J17_getMessage : mPl M_J17_getMessage 0 := ⟨⟨by decide +kernel, by decide +kernel⟩, by decide +kernel, by decide +kernel⟩
theorem my_J17_getMessage : plainName (mN M_J17_getMessage).cls = true := by decide +kernel
abbrev M_J17_init : Mt := (yJ17_init, cJ17_init, 1, (Option.none : Option Jvm.ClassFile.FieldType), [])
theorem mo_J17_init : mOk M_J17_init := Or.inr ⟨rfl, (lkA q607)⟩
theorem mp_J17_init : mPl M_J17_init 0 := ⟨⟨by decide +kernel, by decide +kernel⟩, by decide +kernel, by decide +kernel⟩
theorem my_J17_init : plainName (mN M_J17_init).cls = true := by decide +kernel
abbrev M_J17_init_2 : Mt := (yJ17_init_2, cJ17_init_2, 2, (Option.none : Option Jvm.ClassFile.FieldType), [])
theorem mo_J17_init_2 : mOk M_J17_init_2 := Or.inr ⟨rfl, (lkA q635)⟩
theorem mp_J17_init_2 : mPl M_J17_init_2 1 := ⟨⟨by decide +kernel, by decide +kernel⟩, by decide +kernel, by decide +kernel⟩
theorem my_J17_init_2 : plainName (mN M_J17_init_2).cls = true := by decide +kernel
abbrev M_J17_init_3 : Mt := (yJ17_init_3, cJ17_init_3, 5, (Option.none : Option Jvm.ClassFile.FieldType), [])
theorem mo_J17_init_3 : mOk M_J17_init_3 := Or.inr ⟨rfl, (lkA q1070)⟩
theorem mp_J17_init_3 : mPl M_J17_init_3 4 := ⟨⟨by decide +kernel, by decide +kernel⟩, by decide +kernel, by decide +kernel⟩
theorem my_J17_init_3 : plainName (mN M_J17_init_3).cls = true := by decide +kernel
abbrev M_J17_toString : Mt := (yJ17_toString, cJ17_toString, 3, (Option.some (Jvm.ClassFile.FieldType.object "java/lang/String")), [])
theorem mo_J17_toString : mOk M_J17_toString := Or.inr ⟨rfl, (lkA q642)⟩
theorem mp_J17_toString : mPl M_J17_toString 0 := ⟨⟨by decide +kernel, by decide +kernel⟩, by decide +kernel, by decide +kernel⟩
theorem my_J17_toString : plainName (mN M_J17_toString).cls = true := by decide +kernel
abbrev M_J18_init : Mt := (yJ18_init, cJ18_init, 2, (Option.none : Option Jvm.ClassFile.FieldType), [])
theorem mo_J18_init : mOk M_J18_init := Or.inr ⟨rfl, (lkA q632)⟩
theorem mp_J18_init : mPl M_J18_init 1 := ⟨⟨by decide +kernel, by decide +kernel⟩, by decide +kernel, by decide +kernel⟩
theorem my_J18_init : plainName (mN M_J18_init).cls = true := by decide +kernel
abbrev M_J18_init_2 : Mt := (yJ18_init_2, cJ18_init_2, 5, (Option.none : Option Jvm.ClassFile.FieldType), [])
theorem mo_J18_init_2 : mOk M_J18_init_2 := Or.inr ⟨rfl, (lkA q1067)⟩
theorem mp_J18_init_2 : mPl M_J18_init_2 4 := ⟨⟨by decide +kernel, by decide +kernel⟩, by decide +kernel, by decide +kernel⟩
theorem my_J18_init_2 : plainName (mN M_J18_init_2).cls = true := by decide +kernel
abbrev M_J19_init : Mt := (yJ19_init, cJ19_init, 2, (Option.none : Option Jvm.ClassFile.FieldType), [])
theorem mo_J19_init : mOk M_J19_init := Or.inr ⟨rfl, (lkA q629)⟩
theorem mp_J19_init : mPl M_J19_init 1 := ⟨⟨by decide +kernel, by decide +kernel⟩, by decide +kernel, by decide +kernel⟩
theorem my_J19_init : plainName (mN M_J19_init).cls = true := by decide +kernel
abbrev M_J2_add : Mt := (yJ2_add, cJ2_add, 2, (Option.some Jvm.ClassFile.FieldType.boolean), [])
theorem mo_J2_add : mOk M_J2_add := Or.inr ⟨rfl, (lkA q229)⟩
theorem mp_J2_add : mPl M_J2_add 1 := ⟨⟨by decide +kernel, by decide +kernel⟩, by decide +kernel, by decide +kernel⟩
theorem my_J2_add : plainName (mN M_J2_add).cls = true := by decide +kernel
abbrev M_J2_add_2 : Mt := (yJ2_add_2, cJ2_add_2, 4, (Option.none : Option Jvm.ClassFile.FieldType), [])
theorem mo_J2_add_2 : mOk M_J2_add_2 := Or.inr ⟨rfl, (lkA q233)⟩
theorem mp_J2_add_2 : mPl M_J2_add_2 3 := ⟨⟨by decide +kernel, by decide +kernel⟩, by decide +kernel, by decide +kernel⟩
theorem my_J2_add_2 : plainName (mN M_J2_add_2).cls = true := by decide +kernel
abbrev M_J2_elementData : Mt := (yJ2_elementData, cJ2_elementData, 2, (Option.some (Jvm.ClassFile.FieldType.object "java/lang/Object")), [])
theorem mo_J2_elementData : mOk M_J2_elementData := Or.inr ⟨rfl, (lkA q453)⟩
theorem mp_J2_elementData : mPl M_J2_elementData 1 := ⟨⟨by decide +kernel, by decide +kernel⟩, by decide +kernel, by decide +kernel⟩
theorem my_J2_elementData : plainName (mN M_J2_elementData).cls = true := by decide +kernel
abbrev M_J2_get : Mt := (yJ2_get, cJ2_get, 2, (Option.some (Jvm.ClassFile.FieldType.object "java/lang/Object")), [])
theorem mo_J2_get : mOk M_J2_get := Or.inr ⟨rfl, (lkA q443)⟩
theorem mp_J2_get : mPl M_J2_get 1 := ⟨⟨by decide +kernel, by decide +kernel⟩, by decide +kernel, by decide +kernel⟩
theorem my_J2_get : plainName (mN M_J2_get).cls = true := by decide +kernel
abbrev M_J2_grow : Mt := (yJ2_grow, cJ2_grow, 1, (Option.some (Jvm.ClassFile.FieldType.array (Jvm.ClassFile.FieldType.object "java/lang/Object"))), [])
theorem mo_J2_grow : mOk M_J2_grow := Or.inr ⟨rfl, (lkA q237)⟩
theorem mp_J2_grow : mPl M_J2_grow 0 := ⟨⟨by decide +kernel, by decide +kernel⟩, by decide +kernel, by decide +kernel⟩
theorem my_J2_grow : plainName (mN M_J2_grow).cls = true := by decide +kernel
abbrev M_J2_grow_2 : Mt := (yJ2_grow_2, cJ2_grow_2, 4, (Option.some (Jvm.ClassFile.FieldType.array (Jvm.ClassFile.FieldType.object "java/lang/Object"))), [])
theorem mo_J2_grow_2 : mOk M_J2_grow_2 := Or.inr ⟨rfl, (lkA q241)⟩
theorem mp_J2_grow_2 : mPl M_J2_grow_2 1 := ⟨⟨by decide +kernel, by decide +kernel⟩, by decide +kernel, by decide +kernel⟩
theorem my_J2_grow_2 : plainName (mN M_J2_grow_2).cls = true := by decide +kernel
abbrev M_J2_init : Mt := (yJ2_init, cJ2_init, 2, (Option.none : Option Jvm.ClassFile.FieldType), [])
theorem mo_J2_init : mOk M_J2_init := Or.inr ⟨rfl, (lkA q124)⟩
theorem mp_J2_init : mPl M_J2_init 1 := ⟨⟨by decide +kernel, by decide +kernel⟩, by decide +kernel, by decide +kernel⟩
theorem my_J2_init : plainName (mN M_J2_init).cls = true := by decide +kernel
abbrev M_J2_iterator : Mt := (yJ2_iterator, cJ2_iterator, 1, (Option.some (Jvm.ClassFile.FieldType.object "java/util/Iterator")), [])
theorem mo_J2_iterator : mOk M_J2_iterator := Or.inr ⟨rfl, (lkA q494)⟩
theorem mp_J2_iterator : mPl M_J2_iterator 0 := ⟨⟨by decide +kernel, by decide +kernel⟩, by decide +kernel, by decide +kernel⟩
theorem my_J2_iterator : plainName (mN M_J2_iterator).cls = true := by decide +kernel
abbrev M_J2_listIterator : Mt := (yJ2_listIterator, cJ2_listIterator, 2, (Option.some (Jvm.ClassFile.FieldType.object "java/util/ListIterator")), [])
theorem mo_J2_listIterator : mOk M_J2_listIterator := Or.inr ⟨rfl, (lkA q919)⟩
theorem mp_J2_listIterator : mPl M_J2_listIterator 1 := ⟨⟨by decide +kernel, by decide +kernel⟩, by decide +kernel, by decide +kernel⟩
theorem my_J2_listIterator : plainName (mN M_J2_listIterator).cls = true := by decide +kernel
abbrev M_J2_rangeCheckForAdd : Mt := (yJ2_rangeCheckForAdd, cJ2_rangeCheckForAdd, 2, (Option.none : Option Jvm.ClassFile.FieldType), [])
theorem mo_J2_rangeCheckForAdd : mOk M_J2_rangeCheckForAdd := Or.inr ⟨rfl, (lkA q923)⟩
theorem mp_J2_rangeCheckForAdd : mPl M_J2_rangeCheckForAdd 1 := ⟨⟨by decide +kernel, by decide +kernel⟩, by decide +kernel, by decide +kernel⟩
theorem my_J2_rangeCheckForAdd : plainName (mN M_J2_rangeCheckForAdd).cls = true := by decide +kernel
abbrev M_J2_set : Mt := (yJ2_set, cJ2_set, 4, (Option.some (Jvm.ClassFile.FieldType.object "java/lang/Object")), [])
theorem mo_J2_set : mOk M_J2_set := Or.inr ⟨rfl, (lkA q490)⟩
theorem mp_J2_set : mPl M_J2_set 2 := ⟨⟨by decide +kernel, by decide +kernel⟩, by decide +kernel, by decide +kernel⟩
theorem my_J2_set : plainName (mN M_J2_set).cls = true := by decide +kernel
abbrev M_J2_size : Mt := (yJ2_size, cJ2_size, 1, (Option.some Jvm.ClassFile.FieldType.int), [])
theorem mo_J2_size : mOk M_J2_size := Or.inr ⟨rfl, (lkA q531)⟩
theorem mp_J2_size : mPl M_J2_size 0 := ⟨⟨by decide +kernel, by decide +kernel⟩, by decide +kernel, by decide +kernel⟩
theorem my_J2_size : plainName (mN M_J2_size).cls = true := by decide +kernel
abbrev M_J20_init : Mt := (yJ20_init, cJ20_init, 2, (Option.none : Option Jvm.ClassFile.FieldType), [])
theorem mo_J20_init : mOk M_J20_init := Or.inr ⟨rfl, (lkA q626)⟩
theorem mp_J20_init : mPl M_J20_init 1 := ⟨⟨by decide +kernel, by decide +kernel⟩, by decide +kernel, by decide +kernel⟩
theorem my_J20_init : plainName (mN M_J20_init).cls = true := by decide +kernel
abbrev M_J21_canEncode : Mt := (yJ21_canEncode, cJ21_canEncode, 1, (Option.some Jvm.ClassFile.FieldType.boolean), [])
theorem mo_J21_canEncode : mOk M_J21_canEncode := Or.inr ⟨rfl, (lkA q1439)⟩
theorem mp_J21_canEncode : mPl M_J21_canEncode 1 := ⟨⟨by decide +kernel, by decide +kernel⟩, by decide +kernel, by decide +kernel⟩
theorem my_J21_canEncode : plainName (mN M_J21_canEncode).cls = true := by decide +kernel
abbrev M_J21_charAt : Mt := (yJ21_charAt, cJ21_charAt, 2, (Option.some Jvm.ClassFile.FieldType.char), [])
theorem mo_J21_charAt : mOk M_J21_charAt := Or.inr ⟨rfl, (lkA q1527)⟩
theorem mp_J21_charAt : mPl M_J21_charAt 2 := ⟨⟨by decide +kernel, by decide +kernel⟩, by decide +kernel, by decide +kernel⟩
theorem my_J21_charAt : plainName (mN M_J21_charAt).cls = true := by decide +kernel
abbrev M_J21_equals : Mt := (yJ21_equals, cJ21_equals, 3, (Option.some Jvm.ClassFile.FieldType.boolean), [])
theorem mo_J21_equals : mOk M_J21_equals := Or.inr ⟨rfl, (lkA q1649)⟩
theorem mp_J21_equals : mPl M_J21_equals 2 := ⟨⟨by decide +kernel, by decide +kernel⟩, by decide +kernel, by decide +kernel⟩
theorem my_J21_equals : plainName (mN M_J21_equals).cls = true := by decide +kernel
abbrev M_J21_fillNull : Mt := (yJ21_fillNull, cJ21_fillNull, 3, (Option.none : Option Jvm.ClassFile.FieldType), [])
theorem mo_J21_fillNull : mOk M_J21_fillNull := Or.inr ⟨rfl, (lkA q1710)⟩
theorem mp_J21_fillNull : mPl M_J21_fillNull 3 := ⟨⟨by decide +kernel, by decide +kernel⟩, by decide +kernel, by decide +kernel⟩
theorem my_J21_fillNull : plainName (mN M_J21_fillNull).cls = true := by decide +kernel
abbrev M_J21_hashCode : Mt := (yJ21_hashCode, cJ21_hashCode, 1, (Option.some Jvm.ClassFile.FieldType.int), [])
theorem mo_J21_hashCode : mOk M_J21_hashCode := Or.inr ⟨rfl, (lkA q1599)⟩
theorem mp_J21_hashCode : mPl M_J21_hashCode 1 := ⟨⟨by decide +kernel, by decide +kernel⟩, by decide +kernel, by decide +kernel⟩
theorem my_J21_hashCode : plainName (mN M_J21_hashCode).cls = true := by decide +kernel
abbrev M_J21_inflate : Mt := (yJ21_inflate, cJ21_inflate, 5, (Option.none : Option Jvm.ClassFile.FieldType), [])
theorem mo_J21_inflate : mOk M_J21_inflate := Or.inr ⟨rfl, (lkA q744)⟩
theorem mp_J21_inflate : mPl M_J21_inflate 5 := ⟨⟨by decide +kernel, by decide +kernel⟩, by decide +kernel, by decide +kernel⟩
theorem my_J21_inflate : plainName (mN M_J21_inflate).cls = true := by decide +kernel
abbrev M_J22_checkForComodification : Mt := (yJ22_checkForComodification, cJ22_checkForComodification, 1, (Option.none : Option Jvm.ClassFile.FieldType), [])
theorem mo_J22_checkForComodification : mOk M_J22_checkForComodification := Or.inr ⟨rfl, (lkA q563)⟩
theorem mp_J22_checkForComodification : mPl M_J22_checkForComodification 0 := ⟨⟨by decide +kernel, by decide +kernel⟩, by decide +kernel, by decide +kernel⟩
theorem my_J22_checkForComodification : plainName (mN M_J22_checkForComodification).cls = true := by decide +kernel
abbrev M_J22_hasNext : Mt := (yJ22_hasNext, cJ22_hasNext, 1, (Option.some Jvm.ClassFile.FieldType.boolean), [])
theorem mo_J22_hasNext : mOk M_J22_hasNext := Or.inr ⟨rfl, (lkA q525)⟩
theorem mp_J22_hasNext : mPl M_J22_hasNext 0 := ⟨⟨by decide +kernel, by decide +kernel⟩, by decide +kernel, by decide +kernel⟩
theorem my_J22_hasNext : plainName (mN M_J22_hasNext).cls = true := by decide +kernel
abbrev M_J22_next : Mt := (yJ22_next, cJ22_next, 3, (Option.some (Jvm.ClassFile.FieldType.object "java/lang/Object")), [((4 : Nat), (31 : Nat), (32 : Nat), (39 : Nat))])
theorem mo_J22_next : mOk M_J22_next := Or.inl (lkA q558)
theorem mp_J22_next : mPl M_J22_next 0 := ⟨⟨by decide +kernel, by decide +kernel⟩, by decide +kernel, by decide +kernel⟩
theorem my_J22_next : plainName (mN M_J22_next).cls = true := by decide +kernel
abbrev M_J23_init : Mt := (yJ23_init, cJ23_init, 3, (Option.none : Option Jvm.ClassFile.FieldType), [])
theorem mo_J23_init : mOk M_J23_init := Or.inr ⟨rfl, (lkA q928)⟩
theorem mp_J23_init : mPl M_J23_init 2 := ⟨⟨by decide +kernel, by decide +kernel⟩, by decide +kernel, by decide +kernel⟩
theorem my_J23_init : plainName (mN M_J23_init).cls = true := by decide +kernel
abbrev M_J24_checkForComodification : Mt := (yJ24_checkForComodification, cJ24_checkForComodification, 1, (Option.none : Option Jvm.ClassFile.FieldType), [])
theorem mo_J24_checkForComodification : mOk M_J24_checkForComodification := Or.inr ⟨rfl, (lkA q860)⟩
theorem mp_J24_checkForComodification : mPl M_J24_checkForComodification 0 := ⟨⟨by decide +kernel, by decide +kernel⟩, by decide +kernel, by decide +kernel⟩
theorem my_J24_checkForComodification : plainName (mN M_J24_checkForComodification).cls = true := by decide +kernel
abbrev M_J24_hasNext : Mt := (yJ24_hasNext, cJ24_hasNext, 1, (Option.some Jvm.ClassFile.FieldType.boolean), [])
theorem mo_J24_hasNext : mOk M_J24_hasNext := Or.inr ⟨rfl, (lkA q549)⟩
theorem mp_J24_hasNext : mPl M_J24_hasNext 0 := ⟨⟨by decide +kernel, by decide +kernel⟩, by decide +kernel, by decide +kernel⟩
theorem my_J24_hasNext : plainName (mN M_J24_hasNext).cls = true := by decide +kernel
abbrev M_J24_init : Mt := (yJ24_init, cJ24_init, 3, (Option.none : Option Jvm.ClassFile.FieldType), [])
theorem mo_J24_init : mOk M_J24_init := Or.inr ⟨rfl, (lkA q953)⟩
theorem mp_J24_init : mPl M_J24_init 2 := ⟨⟨by decide +kernel, by decide +kernel⟩, by decide +kernel, by decide +kernel⟩
theorem my_J24_init : plainName (mN M_J24_init).cls = true := by decide +kernel
abbrev M_J24_next : Mt := (yJ24_next, cJ24_next, 1, (Option.some (Jvm.ClassFile.FieldType.object "java/lang/Object")), [])
theorem mo_J24_next : mOk M_J24_next := Or.inr ⟨rfl, (lkA q856)⟩
theorem mp_J24_next : mPl M_J24_next 0 := ⟨⟨by decide +kernel, by decide +kernel⟩, by decide +kernel, by decide +kernel⟩
theorem my_J24_next : plainName (mN M_J24_next).cls = true := by decide +kernel
abbrev M_J25_init : Mt := (yJ25_init, cJ25_init, 4, (Option.none : Option Jvm.ClassFile.FieldType), [])
theorem mo_J25_init : mOk M_J25_init := Or.inr ⟨rfl, (lkA q1024)⟩
theorem mp_J25_init : mPl M_J25_init 3 := ⟨⟨by decide +kernel, by decide +kernel⟩, by decide +kernel, by decide +kernel⟩
theorem my_J25_init : plainName (mN M_J25_init).cls = true := by decide +kernel
abbrev M_J26_numberOfTrailingZeros : Mt := (yJ26_numberOfTrailingZeros, cJ26_numberOfTrailingZeros, 3, (Option.some Jvm.ClassFile.FieldType.int), [])
theorem mo_J26_numberOfTrailingZeros : mOk M_J26_numberOfTrailingZeros := Or.inr ⟨rfl, (lkA q1241)⟩
theorem mp_J26_numberOfTrailingZeros : mPl M_J26_numberOfTrailingZeros 1 := ⟨⟨by decide +kernel, by decide +kernel⟩, by decide +kernel, by decide +kernel⟩
theorem my_J26_numberOfTrailingZeros : plainName (mN M_J26_numberOfTrailingZeros).cls = true := by decide +kernel
abbrev M_J27_getChars : Mt := (yJ27_getChars, cJ27_getChars, 7, (Option.some Jvm.ClassFile.FieldType.int), [])
theorem mo_J27_getChars : mOk M_J27_getChars := Or.inr ⟨rfl, (lkA q1745)⟩
theorem mp_J27_getChars : mPl M_J27_getChars 3 := ⟨⟨by decide +kernel, by decide +kernel⟩, by decide +kernel, by decide +kernel⟩
theorem my_J27_getChars : plainName (mN M_J27_getChars).cls = true := by decide +kernel
abbrev M_J27_numberOfTrailingZeros : Mt := (yJ27_numberOfTrailingZeros, cJ27_numberOfTrailingZeros, 2, (Option.some Jvm.ClassFile.FieldType.int), [])
theorem mo_J27_numberOfTrailingZeros : mOk M_J27_numberOfTrailingZeros := Or.inr ⟨rfl, (lkA q1244)⟩
theorem mp_J27_numberOfTrailingZeros : mPl M_J27_numberOfTrailingZeros 1 := ⟨⟨by decide +kernel, by decide +kernel⟩, by decide +kernel, by decide +kernel⟩
theorem my_J27_numberOfTrailingZeros : plainName (mN M_J27_numberOfTrailingZeros).cls = true := by decide +kernel
abbrev M_J27_stringSize : Mt := (yJ27_stringSize, cJ27_stringSize, 4, (Option.some Jvm.ClassFile.FieldType.int), [])
theorem mo_J27_stringSize : mOk M_J27_stringSize := Or.inr ⟨rfl, (lkA q1742)⟩
theorem mp_J27_stringSize : mPl M_J27_stringSize 1 := ⟨⟨by decide +kernel, by decide +kernel⟩, by decide +kernel, by decide +kernel⟩
theorem my_J27_stringSize : plainName (mN M_J27_stringSize).cls = true := by decide +kernel
abbrev M_J28_init : Mt := (yJ28_init, cJ28_init, 1, (Option.none : Option Jvm.ClassFile.FieldType), [])
theorem mo_J28_init : mOk M_J28_init := Or.inr ⟨rfl, (lkA q113)⟩
theorem mp_J28_init : mPl M_J28_init 0 := ⟨⟨by decide +kernel, by decide +kernel⟩, by decide +kernel, by decide +kernel⟩
abbrev M_J29_getUTF16Char : Mt := (yJ29_getUTF16Char, cJ29_getUTF16Char, 3, (Option.some Jvm.ClassFile.FieldType.char), [])
theorem mo_J29_getUTF16Char : mOk M_J29_getUTF16Char := Or.inr ⟨rfl, (lkA q1621)⟩
theorem mp_J29_getUTF16Char : mPl M_J29_getUTF16Char 2 := ⟨⟨by decide +kernel, by decide +kernel⟩, by decide +kernel, by decide +kernel⟩
theorem my_J29_getUTF16Char : plainName (mN M_J29_getUTF16Char).cls = true := by decide +kernel
abbrev M_J3_init : Mt := (yJ3_init, cJ3_init, 1, (Option.none : Option Jvm.ClassFile.FieldType), [])
theorem mo_J3_init : mOk M_J3_init := Or.inr ⟨rfl, (lkA q162)⟩
theorem mp_J3_init : mPl M_J3_init 0 := ⟨⟨by decide +kernel, by decide +kernel⟩, by decide +kernel, by decide +kernel⟩
theorem my_J3_init : plainName (mN M_J3_init).cls = true := by decide +kernel
abbrev M_J3_iterator : Mt := (yJ3_iterator, cJ3_iterator, 1, (Option.some (Jvm.ClassFile.FieldType.object "java/util/Iterator")), [])
theorem mo_J3_iterator : mOk M_J3_iterator := Or.inr ⟨rfl, (lkA q907)⟩
theorem mp_J3_iterator : mPl M_J3_iterator 0 := ⟨⟨by decide +kernel, by decide +kernel⟩, by decide +kernel, by decide +kernel⟩
theorem my_J3_iterator : plainName (mN M_J3_iterator).cls = true := by decide +kernel
abbrev M_J4_addLast : Mt := (yJ4_addLast, cJ4_addLast, 2, (Option.none : Option Jvm.ClassFile.FieldType), [])
theorem mo_J4_addLast : mOk M_J4_addLast := Or.inr ⟨rfl, (lkA q1015)⟩
theorem mp_J4_addLast : mPl M_J4_addLast 1 := ⟨⟨by decide +kernel, by decide +kernel⟩, by decide +kernel, by decide +kernel⟩
theorem my_J4_addLast : plainName (mN M_J4_addLast).cls = true := by decide +kernel
abbrev M_J4_checkElementIndex : Mt := (yJ4_checkElementIndex, cJ4_checkElementIndex, 2, (Option.none : Option Jvm.ClassFile.FieldType), [])
theorem mo_J4_checkElementIndex : mOk M_J4_checkElementIndex := Or.inr ⟨rfl, (lkA q574)⟩
theorem mp_J4_checkElementIndex : mPl M_J4_checkElementIndex 1 := ⟨⟨by decide +kernel, by decide +kernel⟩, by decide +kernel, by decide +kernel⟩
theorem my_J4_checkElementIndex : plainName (mN M_J4_checkElementIndex).cls = true := by decide +kernel
abbrev M_J4_checkPositionIndex : Mt := (yJ4_checkPositionIndex, cJ4_checkPositionIndex, 2, (Option.none : Option Jvm.ClassFile.FieldType), [])
theorem mo_J4_checkPositionIndex : mOk M_J4_checkPositionIndex := Or.inr ⟨rfl, (lkA q944)⟩
theorem mp_J4_checkPositionIndex : mPl M_J4_checkPositionIndex 1 := ⟨⟨by decide +kernel, by decide +kernel⟩, by decide +kernel, by decide +kernel⟩
theorem my_J4_checkPositionIndex : plainName (mN M_J4_checkPositionIndex).cls = true := by decide +kernel
abbrev M_J4_get : Mt := (yJ4_get, cJ4_get, 2, (Option.some (Jvm.ClassFile.FieldType.object "java/lang/Object")), [])
theorem mo_J4_get : mOk M_J4_get := Or.inr ⟨rfl, (lkA q570)⟩
theorem mp_J4_get : mPl M_J4_get 1 := ⟨⟨by decide +kernel, by decide +kernel⟩, by decide +kernel, by decide +kernel⟩
theorem my_J4_get : plainName (mN M_J4_get).cls = true := by decide +kernel
abbrev M_J4_init : Mt := (yJ4_init, cJ4_init, 1, (Option.none : Option Jvm.ClassFile.FieldType), [])
theorem mo_J4_init : mOk M_J4_init := Or.inr ⟨rfl, (lkA q159)⟩
theorem mp_J4_init : mPl M_J4_init 0 := ⟨⟨by decide +kernel, by decide +kernel⟩, by decide +kernel, by decide +kernel⟩
theorem my_J4_init : plainName (mN M_J4_init).cls = true := by decide +kernel
abbrev M_J4_isElementIndex : Mt := (yJ4_isElementIndex, cJ4_isElementIndex, 2, (Option.some Jvm.ClassFile.FieldType.boolean), [])
theorem mo_J4_isElementIndex : mOk M_J4_isElementIndex := Or.inr ⟨rfl, (lkA q578)⟩
theorem mp_J4_isElementIndex : mPl M_J4_isElementIndex 1 := ⟨⟨by decide +kernel, by decide +kernel⟩, by decide +kernel, by decide +kernel⟩
theorem my_J4_isElementIndex : plainName (mN M_J4_isElementIndex).cls = true := by decide +kernel
abbrev M_J4_isPositionIndex : Mt := (yJ4_isPositionIndex, cJ4_isPositionIndex, 2, (Option.some Jvm.ClassFile.FieldType.boolean), [])
theorem mo_J4_isPositionIndex : mOk M_J4_isPositionIndex := Or.inr ⟨rfl, (lkA q948)⟩
theorem mp_J4_isPositionIndex : mPl M_J4_isPositionIndex 1 := ⟨⟨by decide +kernel, by decide +kernel⟩, by decide +kernel, by decide +kernel⟩
theorem my_J4_isPositionIndex : plainName (mN M_J4_isPositionIndex).cls = true := by decide +kernel
abbrev M_J4_linkLast : Mt := (yJ4_linkLast, cJ4_linkLast, 4, (Option.none : Option Jvm.ClassFile.FieldType), [])
theorem mo_J4_linkLast : mOk M_J4_linkLast := Or.inr ⟨rfl, (lkA q1019)⟩
theorem mp_J4_linkLast : mPl M_J4_linkLast 1 := ⟨⟨by decide +kernel, by decide +kernel⟩, by decide +kernel, by decide +kernel⟩
theorem my_J4_linkLast : plainName (mN M_J4_linkLast).cls = true := by decide +kernel
abbrev M_J4_listIterator : Mt := (yJ4_listIterator, cJ4_listIterator, 2, (Option.some (Jvm.ClassFile.FieldType.object "java/util/ListIterator")), [])
theorem mo_J4_listIterator : mOk M_J4_listIterator := Or.inr ⟨rfl, (lkA q940)⟩
theorem mp_J4_listIterator : mPl M_J4_listIterator 1 := ⟨⟨by decide +kernel, by decide +kernel⟩, by decide +kernel, by decide +kernel⟩
theorem my_J4_listIterator : plainName (mN M_J4_listIterator).cls = true := by decide +kernel
abbrev M_J4_node : Mt := (yJ4_node, cJ4_node, 4, (Option.some (Jvm.ClassFile.FieldType.object "java/util/LinkedList$Node")), [])
theorem mo_J4_node : mOk M_J4_node := Or.inr ⟨rfl, (lkA q582)⟩
theorem mp_J4_node : mPl M_J4_node 1 := ⟨⟨by decide +kernel, by decide +kernel⟩, by decide +kernel, by decide +kernel⟩
theorem my_J4_node : plainName (mN M_J4_node).cls = true := by decide +kernel
abbrev M_J4_size : Mt := (yJ4_size, cJ4_size, 1, (Option.some Jvm.ClassFile.FieldType.int), [])
theorem mo_J4_size : mOk M_J4_size := Or.inr ⟨rfl, (lkA q534)⟩
theorem mp_J4_size : mPl M_J4_size 0 := ⟨⟨by decide +kernel, by decide +kernel⟩, by decide +kernel, by decide +kernel⟩
theorem my_J4_size : plainName (mN M_J4_size).cls = true := by decide +kernel
abbrev M_J5_checkInvariants : Mt := (yJ5_checkInvariants, cJ5_checkInvariants, 1, (Option.none : Option Jvm.ClassFile.FieldType), [])
theorem mo_J5_checkInvariants : mOk M_J5_checkInvariants := Or.inr ⟨rfl, (lkA q484)⟩
theorem mp_J5_checkInvariants : mPl M_J5_checkInvariants 0 := ⟨⟨by decide +kernel, by decide +kernel⟩, by decide +kernel, by decide +kernel⟩
theorem my_J5_checkInvariants : plainName (mN M_J5_checkInvariants).cls = true := by decide +kernel
abbrev M_J5_ensureCapacity : Mt := (yJ5_ensureCapacity, cJ5_ensureCapacity, 3, (Option.none : Option Jvm.ClassFile.FieldType), [])
theorem mo_J5_ensureCapacity : mOk M_J5_ensureCapacity := Or.inr ⟨rfl, (lkA q468)⟩
theorem mp_J5_ensureCapacity : mPl M_J5_ensureCapacity 1 := ⟨⟨by decide +kernel, by decide +kernel⟩, by decide +kernel, by decide +kernel⟩
theorem my_J5_ensureCapacity : plainName (mN M_J5_ensureCapacity).cls = true := by decide +kernel
abbrev M_J5_expandTo : Mt := (yJ5_expandTo, cJ5_expandTo, 3, (Option.none : Option Jvm.ClassFile.FieldType), [])
theorem mo_J5_expandTo : mOk M_J5_expandTo := Or.inr ⟨rfl, (lkA q1379)⟩
theorem mp_J5_expandTo : mPl M_J5_expandTo 1 := ⟨⟨by decide +kernel, by decide +kernel⟩, by decide +kernel, by decide +kernel⟩
theorem my_J5_expandTo : plainName (mN M_J5_expandTo).cls = true := by decide +kernel
abbrev M_J5_get : Mt := (yJ5_get, cJ5_get, 3, (Option.some Jvm.ClassFile.FieldType.boolean), [])
theorem mo_J5_get : mOk M_J5_get := Or.inr ⟨rfl, (lkA q1342)⟩
theorem mp_J5_get : mPl M_J5_get 1 := ⟨⟨by decide +kernel, by decide +kernel⟩, by decide +kernel, by decide +kernel⟩
theorem my_J5_get : plainName (mN M_J5_get).cls = true := by decide +kernel
abbrev M_J5_init : Mt := (yJ5_init, cJ5_init, 2, (Option.none : Option Jvm.ClassFile.FieldType), [])
theorem mo_J5_init : mOk M_J5_init := Or.inr ⟨rfl, (lkA q186)⟩
theorem mp_J5_init : mPl M_J5_init 1 := ⟨⟨by decide +kernel, by decide +kernel⟩, by decide +kernel, by decide +kernel⟩
theorem my_J5_init : plainName (mN M_J5_init).cls = true := by decide +kernel
abbrev M_J5_initWords : Mt := (yJ5_initWords, cJ5_initWords, 2, (Option.none : Option Jvm.ClassFile.FieldType), [])
theorem mo_J5_initWords : mOk M_J5_initWords := Or.inr ⟨rfl, (lkA q191)⟩
theorem mp_J5_initWords : mPl M_J5_initWords 1 := ⟨⟨by decide +kernel, by decide +kernel⟩, by decide +kernel, by decide +kernel⟩
theorem my_J5_initWords : plainName (mN M_J5_initWords).cls = true := by decide +kernel
abbrev M_J5_nextSetBit : Mt := (yJ5_nextSetBit, cJ5_nextSetBit, 5, (Option.some Jvm.ClassFile.FieldType.int), [])
theorem mo_J5_nextSetBit : mOk M_J5_nextSetBit := Or.inr ⟨rfl, (lkA q1237)⟩
theorem mp_J5_nextSetBit : mPl M_J5_nextSetBit 1 := ⟨⟨by decide +kernel, by decide +kernel⟩, by decide +kernel, by decide +kernel⟩
theorem my_J5_nextSetBit : plainName (mN M_J5_nextSetBit).cls = true := by decide +kernel
abbrev M_J5_or : Mt := (yJ5_or, cJ5_or, 4, (Option.none : Option Jvm.ClassFile.FieldType), [])
theorem mo_J5_or : mOk M_J5_or := Or.inr ⟨rfl, (lkA q463)⟩
theorem mp_J5_or : mPl M_J5_or 1 := ⟨⟨by decide +kernel, by decide +kernel⟩, by decide +kernel, by decide +kernel⟩
theorem my_J5_or : plainName (mN M_J5_or).cls = true := by decide +kernel
abbrev M_J5_set : Mt := (yJ5_set, cJ5_set, 3, (Option.none : Option Jvm.ClassFile.FieldType), [])
theorem mo_J5_set : mOk M_J5_set := Or.inr ⟨rfl, (lkA q1375)⟩
theorem mp_J5_set : mPl M_J5_set 1 := ⟨⟨by decide +kernel, by decide +kernel⟩, by decide +kernel, by decide +kernel⟩
theorem my_J5_set : plainName (mN M_J5_set).cls = true := by decide +kernel
abbrev M_J5_wordIndex : Mt := (yJ5_wordIndex, cJ5_wordIndex, 1, (Option.some Jvm.ClassFile.FieldType.int), [])
theorem mo_J5_wordIndex : mOk M_J5_wordIndex := Or.inr ⟨rfl, (lkA q194)⟩
theorem mp_J5_wordIndex : mPl M_J5_wordIndex 1 := ⟨⟨by decide +kernel, by decide +kernel⟩, by decide +kernel, by decide +kernel⟩
theorem my_J5_wordIndex : plainName (mN M_J5_wordIndex).cls = true := by decide +kernel
abbrev M_J6_hashCode : Mt := (yJ6_hashCode, cJ6_hashCode, 6, (Option.some Jvm.ClassFile.FieldType.int), [])
theorem mo_J6_hashCode : mOk M_J6_hashCode := Or.inr ⟨rfl, (lkA q1626)⟩
theorem mp_J6_hashCode : mPl M_J6_hashCode 4 := ⟨⟨by decide +kernel, by decide +kernel⟩, by decide +kernel, by decide +kernel⟩
theorem my_J6_hashCode : plainName (mN M_J6_hashCode).cls = true := by decide +kernel
abbrev M_J6_hashCode_2 : Mt := (yJ6_hashCode_2, cJ6_hashCode_2, 6, (Option.some Jvm.ClassFile.FieldType.int), [])
theorem mo_J6_hashCode_2 : mOk M_J6_hashCode_2 := Or.inr ⟨rfl, (lkA q1629)⟩
theorem mp_J6_hashCode_2 : mPl M_J6_hashCode_2 4 := ⟨⟨by decide +kernel, by decide +kernel⟩, by decide +kernel, by decide +kernel⟩
theorem my_J6_hashCode_2 : plainName (mN M_J6_hashCode_2).cls = true := by decide +kernel
abbrev M_J6_hashCode_3 : Mt := (yJ6_hashCode_3, cJ6_hashCode_3, 6, (Option.some Jvm.ClassFile.FieldType.int), [])
theorem mo_J6_hashCode_3 : mOk M_J6_hashCode_3 := Or.inr ⟨rfl, (lkA q1633)⟩
theorem mp_J6_hashCode_3 : mPl M_J6_hashCode_3 4 := ⟨⟨by decide +kernel, by decide +kernel⟩, by decide +kernel, by decide +kernel⟩
theorem my_J6_hashCode_3 : plainName (mN M_J6_hashCode_3).cls = true := by decide +kernel
abbrev M_J6_hashCode_4 : Mt := (yJ6_hashCode_4, cJ6_hashCode_4, 6, (Option.some Jvm.ClassFile.FieldType.int), [])
theorem mo_J6_hashCode_4 : mOk M_J6_hashCode_4 := Or.inr ⟨rfl, (lkA q1637)⟩
theorem mp_J6_hashCode_4 : mPl M_J6_hashCode_4 4 := ⟨⟨by decide +kernel, by decide +kernel⟩, by decide +kernel, by decide +kernel⟩
theorem my_J6_hashCode_4 : plainName (mN M_J6_hashCode_4).cls = true := by decide +kernel
abbrev M_J6_hugeLength : Mt := (yJ6_hugeLength, cJ6_hugeLength, 3, (Option.some Jvm.ClassFile.FieldType.int), [])
theorem mo_J6_hugeLength : mOk M_J6_hugeLength := Or.inr ⟨rfl, (lkA q253)⟩
theorem mp_J6_hugeLength : mPl M_J6_hugeLength 2 := ⟨⟨by decide +kernel, by decide +kernel⟩, by decide +kernel, by decide +kernel⟩
theorem my_J6_hugeLength : plainName (mN M_J6_hugeLength).cls = true := by decide +kernel
abbrev M_J6_newLength : Mt := (yJ6_newLength, cJ6_newLength, 4, (Option.some Jvm.ClassFile.FieldType.int), [])
theorem mo_J6_newLength : mOk M_J6_newLength := Or.inr ⟨rfl, (lkA q246)⟩
theorem mp_J6_newLength : mPl M_J6_newLength 3 := ⟨⟨by decide +kernel, by decide +kernel⟩, by decide +kernel, by decide +kernel⟩
theorem my_J6_newLength : plainName (mN M_J6_newLength).cls = true := by decide +kernel
abbrev M_J6_signedHashCode : Mt := (yJ6_signedHashCode, cJ6_signedHashCode, 6, (Option.some Jvm.ClassFile.FieldType.int), [])
theorem mo_J6_signedHashCode : mOk M_J6_signedHashCode := Or.inr ⟨rfl, (lkA q1606)⟩
theorem mp_J6_signedHashCode : mPl M_J6_signedHashCode 4 := ⟨⟨by decide +kernel, by decide +kernel⟩, by decide +kernel, by decide +kernel⟩
theorem my_J6_signedHashCode : plainName (mN M_J6_signedHashCode).cls = true := by decide +kernel
abbrev M_J6_utf16hashCode : Mt := (yJ6_utf16hashCode, cJ6_utf16hashCode, 6, (Option.some Jvm.ClassFile.FieldType.int), [])
theorem mo_J6_utf16hashCode : mOk M_J6_utf16hashCode := Or.inr ⟨rfl, (lkA q1609)⟩
theorem mp_J6_utf16hashCode : mPl M_J6_utf16hashCode 4 := ⟨⟨by decide +kernel, by decide +kernel⟩, by decide +kernel, by decide +kernel⟩
theorem my_J6_utf16hashCode : plainName (mN M_J6_utf16hashCode).cls = true := by decide +kernel
abbrev M_J6_vectorizedHashCode : Mt := (yJ6_vectorizedHashCode, cJ6_vectorizedHashCode, 5, (Option.some Jvm.ClassFile.FieldType.int), [])
theorem mo_J6_vectorizedHashCode : mOk M_J6_vectorizedHashCode := Or.inr ⟨rfl, (lkA q1602)⟩
theorem mp_J6_vectorizedHashCode : mPl M_J6_vectorizedHashCode 5 := ⟨⟨by decide +kernel, by decide +kernel⟩, by decide +kernel, by decide +kernel⟩
theorem my_J6_vectorizedHashCode : plainName (mN M_J6_vectorizedHashCode).cls = true := by decide +kernel
abbrev M_J7_abs : Mt := (yJ7_abs, cJ7_abs, 1, (Option.some Jvm.ClassFile.FieldType.int), [])
theorem mo_J7_abs : mOk M_J7_abs := Or.inr ⟨rfl, (lkA q1268)⟩
theorem mp_J7_abs : mPl M_J7_abs 1 := ⟨⟨by decide +kernel, by decide +kernel⟩, by decide +kernel, by decide +kernel⟩
abbrev M_J7_max : Mt := (yJ7_max, cJ7_max, 2, (Option.some Jvm.ClassFile.FieldType.int), [])
theorem mo_J7_max : mOk M_J7_max := Or.inr ⟨rfl, (lkA q249)⟩
theorem mp_J7_max : mPl M_J7_max 2 := ⟨⟨by decide +kernel, by decide +kernel⟩, by decide +kernel, by decide +kernel⟩
abbrev M_J7_min : Mt := (yJ7_min, cJ7_min, 2, (Option.some Jvm.ClassFile.FieldType.int), [])
theorem mo_J7_min : mOk M_J7_min := Or.inr ⟨rfl, (lkA q291)⟩
theorem mp_J7_min : mPl M_J7_min 2 := ⟨⟨by decide +kernel, by decide +kernel⟩, by decide +kernel, by decide +kernel⟩
abbrev M_J8_checkLength : Mt := (yJ8_checkLength, cJ8_checkLength, 2, (Option.none : Option Jvm.ClassFile.FieldType), [])
theorem mo_J8_checkLength : mOk M_J8_checkLength := Or.inr ⟨rfl, (lkA q799)⟩
theorem mp_J8_checkLength : mPl M_J8_checkLength 2 := ⟨⟨by decide +kernel, by decide +kernel⟩, by decide +kernel, by decide +kernel⟩
theorem my_J8_checkLength : plainName (mN M_J8_checkLength).cls = true := by decide +kernel
abbrev M_J8_copyOf : Mt := (yJ8_copyOf, cJ8_copyOf, 2, (Option.some (Jvm.ClassFile.FieldType.array (Jvm.ClassFile.FieldType.object "java/lang/Object"))), [])
theorem mo_J8_copyOf : mOk M_J8_copyOf := Or.inr ⟨rfl, (lkA q256)⟩
theorem mp_J8_copyOf : mPl M_J8_copyOf 2 := ⟨⟨by decide +kernel, by decide +kernel⟩, by decide +kernel, by decide +kernel⟩
theorem my_J8_copyOf : plainName (mN M_J8_copyOf).cls = true := by decide +kernel
abbrev M_J8_copyOfRange : Mt := (yJ8_copyOfRange, cJ8_copyOfRange, 3, (Option.some (Jvm.ClassFile.FieldType.array Jvm.ClassFile.FieldType.byte)), [])
theorem mo_J8_copyOfRange : mOk M_J8_copyOfRange := Or.inr ⟨rfl, (lkA q793)⟩
theorem mp_J8_copyOfRange : mPl M_J8_copyOfRange 3 := ⟨⟨by decide +kernel, by decide +kernel⟩, by decide +kernel, by decide +kernel⟩
theorem my_J8_copyOfRange : plainName (mN M_J8_copyOfRange).cls = true := by decide +kernel
abbrev M_J8_copyOfRangeByte : Mt := (yJ8_copyOfRangeByte, cJ8_copyOfRangeByte, 5, (Option.some (Jvm.ClassFile.FieldType.array Jvm.ClassFile.FieldType.byte)), [])
theorem mo_J8_copyOfRangeByte : mOk M_J8_copyOfRangeByte := Or.inr ⟨rfl, (lkA q796)⟩
theorem mp_J8_copyOfRangeByte : mPl M_J8_copyOfRangeByte 3 := ⟨⟨by decide +kernel, by decide +kernel⟩, by decide +kernel, by decide +kernel⟩
theorem my_J8_copyOfRangeByte : plainName (mN M_J8_copyOfRangeByte).cls = true := by decide +kernel
abbrev M_J8_copyOf_2 : Mt := (yJ8_copyOf_2, cJ8_copyOf_2, 4, (Option.some (Jvm.ClassFile.FieldType.array (Jvm.ClassFile.FieldType.object "java/lang/Object"))), [])
theorem mo_J8_copyOf_2 : mOk M_J8_copyOf_2 := Or.inr ⟨rfl, (lkA q286)⟩
theorem mp_J8_copyOf_2 : mPl M_J8_copyOf_2 3 := ⟨⟨by decide +kernel, by decide +kernel⟩, by decide +kernel, by decide +kernel⟩
theorem my_J8_copyOf_2 : plainName (mN M_J8_copyOf_2).cls = true := by decide +kernel
abbrev M_J8_copyOf_3 : Mt := (yJ8_copyOf_3, cJ8_copyOf_3, 3, (Option.some (Jvm.ClassFile.FieldType.array Jvm.ClassFile.FieldType.long)), [])
theorem mo_J8_copyOf_3 : mOk M_J8_copyOf_3 := Or.inr ⟨rfl, (lkA q472)⟩
theorem mp_J8_copyOf_3 : mPl M_J8_copyOf_3 2 := ⟨⟨by decide +kernel, by decide +kernel⟩, by decide +kernel, by decide +kernel⟩
theorem my_J8_copyOf_3 : plainName (mN M_J8_copyOf_3).cls = true := by decide +kernel
abbrev M_J8_copyOf_4 : Mt := (yJ8_copyOf_4, cJ8_copyOf_4, 3, (Option.some (Jvm.ClassFile.FieldType.array Jvm.ClassFile.FieldType.byte)), [])
theorem mo_J8_copyOf_4 : mOk M_J8_copyOf_4 := Or.inr ⟨rfl, (lkA q683)⟩
theorem mp_J8_copyOf_4 : mPl M_J8_copyOf_4 2 := ⟨⟨by decide +kernel, by decide +kernel⟩, by decide +kernel, by decide +kernel⟩
theorem my_J8_copyOf_4 : plainName (mN M_J8_copyOf_4).cls = true := by decide +kernel
abbrev M_J8_fill : Mt := (yJ8_fill, cJ8_fill, 5, (Option.none : Option Jvm.ClassFile.FieldType), [])
theorem mo_J8_fill : mOk M_J8_fill := Or.inr ⟨rfl, (lkA q1713)⟩
theorem mp_J8_fill : mPl M_J8_fill 4 := ⟨⟨by decide +kernel, by decide +kernel⟩, by decide +kernel, by decide +kernel⟩
theorem my_J8_fill : plainName (mN M_J8_fill).cls = true := by decide +kernel
abbrev M_J8_rangeCheck : Mt := (yJ8_rangeCheck, cJ8_rangeCheck, 3, (Option.none : Option Jvm.ClassFile.FieldType), [])
theorem mo_J8_rangeCheck : mOk M_J8_rangeCheck := Or.inr ⟨rfl, (lkA q1716)⟩
theorem mp_J8_rangeCheck : mPl M_J8_rangeCheck 3 := ⟨⟨by decide +kernel, by decide +kernel⟩, by decide +kernel, by decide +kernel⟩
theorem my_J8_rangeCheck : plainName (mN M_J8_rangeCheck).cls = true := by decide +kernel
abbrev M_J9_addLast : Mt := (yJ9_addLast, cJ9_addLast, 3, (Option.none : Option Jvm.ClassFile.FieldType), [])
theorem mo_J9_addLast : mOk M_J9_addLast := Or.inr ⟨rfl, (lkA q1089)⟩
theorem mp_J9_addLast : mPl M_J9_addLast 1 := ⟨⟨by decide +kernel, by decide +kernel⟩, by decide +kernel, by decide +kernel⟩
theorem my_J9_addLast : plainName (mN M_J9_addLast).cls = true := by decide +kernel
abbrev M_J9_circularClear : Mt := (yJ9_circularClear, cJ9_circularClear, 4, (Option.none : Option Jvm.ClassFile.FieldType), [])
theorem mo_J9_circularClear : mOk M_J9_circularClear := Or.inr ⟨rfl, (lkA q1883)⟩
theorem mp_J9_circularClear : mPl M_J9_circularClear 3 := ⟨⟨by decide +kernel, by decide +kernel⟩, by decide +kernel, by decide +kernel⟩
theorem my_J9_circularClear : plainName (mN M_J9_circularClear).cls = true := by decide +kernel
abbrev M_J9_clear : Mt := (yJ9_clear, cJ9_clear, 1, (Option.none : Option Jvm.ClassFile.FieldType), [])
theorem mo_J9_clear : mOk M_J9_clear := Or.inr ⟨rfl, (lkA q1880)⟩
theorem mp_J9_clear : mPl M_J9_clear 0 := ⟨⟨by decide +kernel, by decide +kernel⟩, by decide +kernel, by decide +kernel⟩
theorem my_J9_clear : plainName (mN M_J9_clear).cls = true := by decide +kernel
abbrev M_J9_dec : Mt := (yJ9_dec, cJ9_dec, 2, (Option.some Jvm.ClassFile.FieldType.int), [])
theorem mo_J9_dec : mOk M_J9_dec := Or.inr ⟨rfl, (lkA q1868)⟩
theorem mp_J9_dec : mPl M_J9_dec 2 := ⟨⟨by decide +kernel, by decide +kernel⟩, by decide +kernel, by decide +kernel⟩
theorem my_J9_dec : plainName (mN M_J9_dec).cls = true := by decide +kernel
abbrev M_J9_elementAt : Mt := (yJ9_elementAt, cJ9_elementAt, 2, (Option.some (Jvm.ClassFile.FieldType.object "java/lang/Object")), [])
theorem mo_J9_elementAt : mOk M_J9_elementAt := Or.inr ⟨rfl, (lkA q1122)⟩
theorem mp_J9_elementAt : mPl M_J9_elementAt 2 := ⟨⟨by decide +kernel, by decide +kernel⟩, by decide +kernel, by decide +kernel⟩
theorem my_J9_elementAt : plainName (mN M_J9_elementAt).cls = true := by decide +kernel
abbrev M_J9_grow : Mt := (yJ9_grow, cJ9_grow, 9, (Option.none : Option Jvm.ClassFile.FieldType), [])
theorem mo_J9_grow : mOk M_J9_grow := Or.inr ⟨rfl, (lkA q1096)⟩
theorem mp_J9_grow : mPl M_J9_grow 1 := ⟨⟨by decide +kernel, by decide +kernel⟩, by decide +kernel, by decide +kernel⟩
theorem my_J9_grow : plainName (mN M_J9_grow).cls = true := by decide +kernel
abbrev M_J9_inc : Mt := (yJ9_inc, cJ9_inc, 2, (Option.some Jvm.ClassFile.FieldType.int), [])
theorem mo_J9_inc : mOk M_J9_inc := Or.inr ⟨rfl, (lkA q1092)⟩
theorem mp_J9_inc : mPl M_J9_inc 2 := ⟨⟨by decide +kernel, by decide +kernel⟩, by decide +kernel, by decide +kernel⟩
theorem my_J9_inc : plainName (mN M_J9_inc).cls = true := by decide +kernel
abbrev M_J9_init : Mt := (yJ9_init, cJ9_init, 1, (Option.none : Option Jvm.ClassFile.FieldType), [])
theorem mo_J9_init : mOk M_J9_init := Or.inr ⟨rfl, (lkA q357)⟩
theorem mp_J9_init : mPl M_J9_init 0 := ⟨⟨by decide +kernel, by decide +kernel⟩, by decide +kernel, by decide +kernel⟩
theorem my_J9_init : plainName (mN M_J9_init).cls = true := by decide +kernel
abbrev M_J9_isEmpty : Mt := (yJ9_isEmpty, cJ9_isEmpty, 1, (Option.some Jvm.ClassFile.FieldType.boolean), [])
theorem mo_J9_isEmpty : mOk M_J9_isEmpty := Or.inr ⟨rfl, (lkA q1857)⟩
theorem mp_J9_isEmpty : mPl M_J9_isEmpty 0 := ⟨⟨by decide +kernel, by decide +kernel⟩, by decide +kernel, by decide +kernel⟩
theorem my_J9_isEmpty : plainName (mN M_J9_isEmpty).cls = true := by decide +kernel
abbrev M_J9_newCapacity : Mt := (yJ9_newCapacity, cJ9_newCapacity, 5, (Option.some Jvm.ClassFile.FieldType.int), [])
theorem mo_J9_newCapacity : mOk M_J9_newCapacity := Or.inr ⟨rfl, (lkA q1101)⟩
theorem mp_J9_newCapacity : mPl M_J9_newCapacity 2 := ⟨⟨by decide +kernel, by decide +kernel⟩, by decide +kernel, by decide +kernel⟩
theorem my_J9_newCapacity : plainName (mN M_J9_newCapacity).cls = true := by decide +kernel
abbrev M_J9_pollFirst : Mt := (yJ9_pollFirst, cJ9_pollFirst, 4, (Option.some (Jvm.ClassFile.FieldType.object "java/lang/Object")), [])
theorem mo_J9_pollFirst : mOk M_J9_pollFirst := Or.inr ⟨rfl, (lkA q1119)⟩
theorem mp_J9_pollFirst : mPl M_J9_pollFirst 0 := ⟨⟨by decide +kernel, by decide +kernel⟩, by decide +kernel, by decide +kernel⟩
theorem my_J9_pollFirst : plainName (mN M_J9_pollFirst).cls = true := by decide +kernel
abbrev M_J9_pollLast : Mt := (yJ9_pollLast, cJ9_pollLast, 4, (Option.some (Jvm.ClassFile.FieldType.object "java/lang/Object")), [])
theorem mo_J9_pollLast : mOk M_J9_pollLast := Or.inr ⟨rfl, (lkA q1865)⟩
theorem mp_J9_pollLast : mPl M_J9_pollLast 0 := ⟨⟨by decide +kernel, by decide +kernel⟩, by decide +kernel, by decide +kernel⟩
theorem my_J9_pollLast : plainName (mN M_J9_pollLast).cls = true := by decide +kernel
abbrev M_J9_removeFirst : Mt := (yJ9_removeFirst, cJ9_removeFirst, 2, (Option.some (Jvm.ClassFile.FieldType.object "java/lang/Object")), [])
theorem mo_J9_removeFirst : mOk M_J9_removeFirst := Or.inr ⟨rfl, (lkA q1115)⟩
theorem mp_J9_removeFirst : mPl M_J9_removeFirst 0 := ⟨⟨by decide +kernel, by decide +kernel⟩, by decide +kernel, by decide +kernel⟩
theorem my_J9_removeFirst : plainName (mN M_J9_removeFirst).cls = true := by decide +kernel
abbrev M_J9_removeLast : Mt := (yJ9_removeLast, cJ9_removeLast, 2, (Option.some (Jvm.ClassFile.FieldType.object "java/lang/Object")), [])
theorem mo_J9_removeLast : mOk M_J9_removeLast := Or.inr ⟨rfl, (lkA q1861)⟩
theorem mp_J9_removeLast : mPl M_J9_removeLast 0 := ⟨⟨by decide +kernel, by decide +kernel⟩, by decide +kernel, by decide +kernel⟩
theorem my_J9_removeLast : plainName (mN M_J9_removeLast).cls = true := by decide +kernel
abbrev M_J9_size : Mt := (yJ9_size, cJ9_size, 1, (Option.some Jvm.ClassFile.FieldType.int), [])
theorem mo_J9_size : mOk M_J9_size := Or.inr ⟨rfl, (lkA q1108)⟩
theorem mp_J9_size : mPl M_J9_size 0 := ⟨⟨by decide +kernel, by decide +kernel⟩, by decide +kernel, by decide +kernel⟩
theorem my_J9_size : plainName (mN M_J9_size).cls = true := by decide +kernel
abbrev M_J9_sub : Mt := (yJ9_sub, cJ9_sub, 3, (Option.some Jvm.ClassFile.FieldType.int), [])
theorem mo_J9_sub : mOk M_J9_sub := Or.inr ⟨rfl, (lkA q1111)⟩
theorem mp_J9_sub : mPl M_J9_sub 3 := ⟨⟨by decide +kernel, by decide +kernel⟩, by decide +kernel, by decide +kernel⟩
theorem my_J9_sub : plainName (mN M_J9_sub).cls = true := by decide +kernel
abbrev M_X0_account : Mt := (yX0_account, cX0_account, 2, (Option.some Jvm.ClassFile.FieldType.int), [])
theorem mo_X0_account : mOk M_X0_account := Or.inr ⟨rfl, (lkA q1801)⟩
theorem mp_X0_account : mPl M_X0_account 1 := ⟨⟨by decide +kernel, by decide +kernel⟩, by decide +kernel, by decide +kernel⟩
theorem my_X0_account : plainName (mN M_X0_account).cls = true := by decide +kernel
abbrev M_X0_append : Mt := (yX0_append, cX0_append, 2, (Option.some Jvm.ClassFile.FieldType.int), [])
theorem mo_X0_append : mOk M_X0_append := Or.inr ⟨rfl, (lkA q1428)⟩
theorem mp_X0_append : mPl M_X0_append 1 := ⟨⟨by decide +kernel, by decide +kernel⟩, by decide +kernel, by decide +kernel⟩
theorem my_X0_append : plainName (mN M_X0_append).cls = true := by decide +kernel
abbrev M_X0_areTaken : Mt := (yX0_areTaken, cX0_areTaken, 1, (Option.some Jvm.ClassFile.FieldType.boolean), [])
theorem mo_X0_areTaken : mOk M_X0_areTaken := Or.inr ⟨rfl, (lkA q1168)⟩
theorem mp_X0_areTaken : mPl M_X0_areTaken 1 := ⟨⟨by decide +kernel, by decide +kernel⟩, by decide +kernel, by decide +kernel⟩
theorem my_X0_areTaken : plainName (mN M_X0_areTaken).cls = true := by decide +kernel
abbrev M_X0_back : Mt := (yX0_back, cX0_back, 4, (Option.some Jvm.ClassFile.FieldType.int), [((22 : Nat), (35 : Nat), (36 : Nat), (40 : Nat))])
theorem mo_X0_back : mOk M_X0_back := Or.inl (lkA q1393)
theorem mp_X0_back : mPl M_X0_back 1 := ⟨⟨by decide +kernel, by decide +kernel⟩, by decide +kernel, by decide +kernel⟩
theorem my_X0_back : plainName (mN M_X0_back).cls = true := by decide +kernel
abbrev M_X0_backShare : Mt := (yX0_backShare, cX0_backShare, 2, (Option.some Jvm.ClassFile.FieldType.float), [])
theorem mo_X0_backShare : mOk M_X0_backShare := Or.inr ⟨rfl, (lkA q1849)⟩
theorem mp_X0_backShare : mPl M_X0_backShare 0 := ⟨⟨by decide +kernel, by decide +kernel⟩, by decide +kernel, by decide +kernel⟩
theorem my_X0_backShare : plainName (mN M_X0_backShare).cls = true := by decide +kernel
abbrev M_X0_bestHouse : Mt := (yX0_bestHouse, cX0_bestHouse, 4, (Option.some Jvm.ClassFile.FieldType.int), [])
theorem mo_X0_bestHouse : mOk M_X0_bestHouse := Or.inr ⟨rfl, (lkA q1348)⟩
theorem mp_X0_bestHouse : mPl M_X0_bestHouse 3 := ⟨⟨by decide +kernel, by decide +kernel⟩, by decide +kernel, by decide +kernel⟩
theorem my_X0_bestHouse : plainName (mN M_X0_bestHouse).cls = true := by decide +kernel
abbrev M_X0_changed : Mt := (yX0_changed, cX0_changed, 3, (Option.some Jvm.ClassFile.FieldType.int), [])
theorem mo_X0_changed : mOk M_X0_changed := Or.inr ⟨rfl, (lkA q1085)⟩
theorem mp_X0_changed : mPl M_X0_changed 2 := ⟨⟨by decide +kernel, by decide +kernel⟩, by decide +kernel, by decide +kernel⟩
theorem my_X0_changed : plainName (mN M_X0_changed).cls = true := by decide +kernel
abbrev M_X0_character : Mt := (yX0_character, cX0_character, 2, (Option.some Jvm.ClassFile.FieldType.int), [])
theorem mo_X0_character : mOk M_X0_character := Or.inr ⟨rfl, (lkA q1792)⟩
theorem mp_X0_character : mPl M_X0_character 1 := ⟨⟨by decide +kernel, by decide +kernel⟩, by decide +kernel, by decide +kernel⟩
theorem my_X0_character : plainName (mN M_X0_character).cls = true := by decide +kernel
abbrev M_X0_day : Mt := (yX0_day, cX0_day, 2, (Option.some Jvm.ClassFile.FieldType.int), [])
theorem mo_X0_day : mOk M_X0_day := Or.inr ⟨rfl, (lkA q1416)⟩
theorem mp_X0_day : mPl M_X0_day 0 := ⟨⟨by decide +kernel, by decide +kernel⟩, by decide +kernel, by decide +kernel⟩
theorem my_X0_day : plainName (mN M_X0_day).cls = true := by decide +kernel
abbrev M_X0_depot : Mt := (yX0_depot, cX0_depot, 2, (Option.some Jvm.ClassFile.FieldType.int), [])
theorem mo_X0_depot : mOk M_X0_depot := Or.inr ⟨rfl, (lkA q1249)⟩
theorem mp_X0_depot : mPl M_X0_depot 1 := ⟨⟨by decide +kernel, by decide +kernel⟩, by decide +kernel, by decide +kernel⟩
theorem my_X0_depot : plainName (mN M_X0_depot).cls = true := by decide +kernel
abbrev M_X0_dog : Mt := (yX0_dog, cX0_dog, 5, (Option.some Jvm.ClassFile.FieldType.int), [((31 : Nat), (45 : Nat), (46 : Nat), (40 : Nat))])
theorem mo_X0_dog : mOk M_X0_dog := Or.inl (lkA q1130)
theorem mp_X0_dog : mPl M_X0_dog 2 := ⟨⟨by decide +kernel, by decide +kernel⟩, by decide +kernel, by decide +kernel⟩
theorem my_X0_dog : plainName (mN M_X0_dog).cls = true := by decide +kernel
abbrev M_X0_go : Mt := (yX0_go, cX0_go, 5, (Option.some Jvm.ClassFile.FieldType.int), [((29 : Nat), (43 : Nat), (44 : Nat), (40 : Nat))])
theorem mo_X0_go : mOk M_X0_go := Or.inl (lkA q1253)
theorem mp_X0_go : mPl M_X0_go 2 := ⟨⟨by decide +kernel, by decide +kernel⟩, by decide +kernel, by decide +kernel⟩
theorem my_X0_go : plainName (mN M_X0_go).cls = true := by decide +kernel
abbrev M_X0_houseOf : Mt := (yX0_houseOf, cX0_houseOf, 3, (Option.some Jvm.ClassFile.FieldType.int), [])
theorem mo_X0_houseOf : mOk M_X0_houseOf := Or.inr ⟨rfl, (lkA q1220)⟩
theorem mp_X0_houseOf : mPl M_X0_houseOf 2 := ⟨⟨by decide +kernel, by decide +kernel⟩, by decide +kernel, by decide +kernel⟩
theorem my_X0_houseOf : plainName (mN M_X0_houseOf).cls = true := by decide +kernel
abbrev M_X0_init : Mt := (yX0_init, cX0_init, 1, (Option.none : Option Jvm.ClassFile.FieldType), [])
theorem mo_X0_init : mOk M_X0_init := Or.inr ⟨rfl, (lkA q110)⟩
theorem mp_X0_init : mPl M_X0_init 0 := ⟨⟨by decide +kernel, by decide +kernel⟩, by decide +kernel, by decide +kernel⟩
theorem my_X0_init : plainName (mN M_X0_init).cls = true := by decide +kernel
abbrev M_X0_isBalanced : Mt := (yX0_isBalanced, cX0_isBalanced, 1, (Option.some Jvm.ClassFile.FieldType.int), [])
theorem mo_X0_isBalanced : mOk M_X0_isBalanced := Or.inr ⟨rfl, (lkA q1828)⟩
theorem mp_X0_isBalanced : mPl M_X0_isBalanced 0 := ⟨⟨by decide +kernel, by decide +kernel⟩, by decide +kernel, by decide +kernel⟩
theorem my_X0_isBalanced : plainName (mN M_X0_isBalanced).cls = true := by decide +kernel
abbrev M_X0_isBristle : Mt := (yX0_isBristle, cX0_isBristle, 1, (Option.some Jvm.ClassFile.FieldType.boolean), [])
theorem mo_X0_isBristle : mOk M_X0_isBristle := Or.inr ⟨rfl, (lkA q1148)⟩
theorem mp_X0_isBristle : mPl M_X0_isBristle 1 := ⟨⟨by decide +kernel, by decide +kernel⟩, by decide +kernel, by decide +kernel⟩
theorem my_X0_isBristle : plainName (mN M_X0_isBristle).cls = true := by decide +kernel
abbrev M_X0_isHouse : Mt := (yX0_isHouse, cX0_isHouse, 1, (Option.some Jvm.ClassFile.FieldType.boolean), [])
theorem mo_X0_isHouse : mOk M_X0_isHouse := Or.inr ⟨rfl, (lkA q1133)⟩
theorem mp_X0_isHouse : mPl M_X0_isHouse 1 := ⟨⟨by decide +kernel, by decide +kernel⟩, by decide +kernel, by decide +kernel⟩
theorem my_X0_isHouse : plainName (mN M_X0_isHouse).cls = true := by decide +kernel
abbrev M_X0_isIn : Mt := (yX0_isIn, cX0_isIn, 3, (Option.some Jvm.ClassFile.FieldType.boolean), [])
theorem mo_X0_isIn : mOk M_X0_isIn := Or.inr ⟨rfl, (lkA q433)⟩
theorem mp_X0_isIn : mPl M_X0_isIn 3 := ⟨⟨by decide +kernel, by decide +kernel⟩, by decide +kernel, by decide +kernel⟩
theorem my_X0_isIn : plainName (mN M_X0_isIn).cls = true := by decide +kernel
abbrev M_X0_isPrice : Mt := (yX0_isPrice, cX0_isPrice, 1, (Option.some Jvm.ClassFile.FieldType.boolean), [])
theorem mo_X0_isPrice : mOk M_X0_isPrice := Or.inr ⟨rfl, (lkA q1325)⟩
theorem mp_X0_isPrice : mPl M_X0_isPrice 1 := ⟨⟨by decide +kernel, by decide +kernel⟩, by decide +kernel, by decide +kernel⟩
theorem my_X0_isPrice : plainName (mN M_X0_isPrice).cls = true := by decide +kernel
abbrev M_X0_make : Mt := (yX0_make, cX0_make, 5, (Option.some Jvm.ClassFile.FieldType.int), [((31 : Nat), (45 : Nat), (46 : Nat), (40 : Nat))])
theorem mo_X0_make : mOk M_X0_make := Or.inl (lkA q1145)
theorem mp_X0_make : mPl M_X0_make 2 := ⟨⟨by decide +kernel, by decide +kernel⟩, by decide +kernel, by decide +kernel⟩
theorem my_X0_make : plainName (mN M_X0_make).cls = true := by decide +kernel
abbrev M_X0_meanTemper : Mt := (yX0_meanTemper, cX0_meanTemper, 1, (Option.some Jvm.ClassFile.FieldType.double), [])
theorem mo_X0_meanTemper : mOk M_X0_meanTemper := Or.inr ⟨rfl, (lkA q1840)⟩
theorem mp_X0_meanTemper : mPl M_X0_meanTemper 0 := ⟨⟨by decide +kernel, by decide +kernel⟩, by decide +kernel, by decide +kernel⟩
theorem my_X0_meanTemper : plainName (mN M_X0_meanTemper).cls = true := by decide +kernel
abbrev M_X0_pet : Mt := (yX0_pet, cX0_pet, 4, (Option.some Jvm.ClassFile.FieldType.int), [((22 : Nat), (35 : Nat), (36 : Nat), (40 : Nat))])
theorem mo_X0_pet : mOk M_X0_pet := Or.inl (lkA q1293)
theorem mp_X0_pet : mPl M_X0_pet 1 := ⟨⟨by decide +kernel, by decide +kernel⟩, by decide +kernel, by decide +kernel⟩
theorem my_X0_pet : plainName (mN M_X0_pet).cls = true := by decide +kernel
abbrev M_X0_reason : Mt := (yX0_reason, cX0_reason, 2, (Option.some Jvm.ClassFile.FieldType.int), [])
theorem mo_X0_reason : mOk M_X0_reason := Or.inr ⟨rfl, (lkA q1797)⟩
theorem mp_X0_reason : mPl M_X0_reason 1 := ⟨⟨by decide +kernel, by decide +kernel⟩, by decide +kernel, by decide +kernel⟩
theorem my_X0_reason : plainName (mN M_X0_reason).cls = true := by decide +kernel
abbrev M_X0_refuse : Mt := (yX0_refuse, cX0_refuse, 3, (Option.none : Option Jvm.ClassFile.FieldType), [])
theorem mo_X0_refuse : mOk M_X0_refuse := Or.inr ⟨rfl, (lkA q1053)⟩
theorem mp_X0_refuse : mPl M_X0_refuse 3 := ⟨⟨by decide +kernel, by decide +kernel⟩, by decide +kernel, by decide +kernel⟩
theorem my_X0_refuse : plainName (mN M_X0_refuse).cls = true := by decide +kernel
abbrev M_X0_refused : Mt := (yX0_refused, cX0_refused, 2, (Option.some Jvm.ClassFile.FieldType.int), [])
theorem mo_X0_refused : mOk M_X0_refused := Or.inr ⟨rfl, (lkA q1126)⟩
theorem mp_X0_refused : mPl M_X0_refused 1 := ⟨⟨by decide +kernel, by decide +kernel⟩, by decide +kernel, by decide +kernel⟩
theorem my_X0_refused : plainName (mN M_X0_refused).cls = true := by decide +kernel
abbrev M_X0_restore : Mt := (yX0_restore, cX0_restore, 1, (Option.some Jvm.ClassFile.FieldType.int), [])
theorem mo_X0_restore : mOk M_X0_restore := Or.inr ⟨rfl, (lkA q1876)⟩
theorem mp_X0_restore : mPl M_X0_restore 0 := ⟨⟨by decide +kernel, by decide +kernel⟩, by decide +kernel, by decide +kernel⟩
theorem my_X0_restore : plainName (mN M_X0_restore).cls = true := by decide +kernel
abbrev M_X0_ring : Mt := (yX0_ring, cX0_ring, 6, (Option.some Jvm.ClassFile.FieldType.int), [((40 : Nat), (56 : Nat), (57 : Nat), (40 : Nat))])
theorem mo_X0_ring : mOk M_X0_ring := Or.inl (lkA q1357)
theorem mp_X0_ring : mPl M_X0_ring 3 := ⟨⟨by decide +kernel, by decide +kernel⟩, by decide +kernel, by decide +kernel⟩
theorem my_X0_ring : plainName (mN M_X0_ring).cls = true := by decide +kernel
abbrev M_X0_rounds : Mt := (yX0_rounds, cX0_rounds, 4, (Option.some Jvm.ClassFile.FieldType.int), [])
theorem mo_X0_rounds : mOk M_X0_rounds := Or.inr ⟨rfl, (lkA q1306)⟩
theorem mp_X0_rounds : mPl M_X0_rounds 2 := ⟨⟨by decide +kernel, by decide +kernel⟩, by decide +kernel, by decide +kernel⟩
theorem my_X0_rounds : plainName (mN M_X0_rounds).cls = true := by decide +kernel
abbrev M_X0_roundsAgain : Mt := (yX0_roundsAgain, cX0_roundsAgain, 4, (Option.some Jvm.ClassFile.FieldType.int), [])
theorem mo_X0_roundsAgain : mOk M_X0_roundsAgain := Or.inr ⟨rfl, (lkA q1314)⟩
theorem mp_X0_roundsAgain : mPl M_X0_roundsAgain 2 := ⟨⟨by decide +kernel, by decide +kernel⟩, by decide +kernel, by decide +kernel⟩
theorem my_X0_roundsAgain : plainName (mN M_X0_roundsAgain).cls = true := by decide +kernel
abbrev M_X0_run : Mt := (yX0_run, cX0_run, 7, (Option.some Jvm.ClassFile.FieldType.int), [((0 : Nat), (99 : Nat), (110 : Nat), (225 : Nat)), ((0 : Nat), (99 : Nat), (130 : Nat), (40 : Nat)), ((0 : Nat), (99 : Nat), (147 : Nat), (0 : Nat)), ((110 : Nat), (120 : Nat), (147 : Nat), (0 : Nat)), ((130 : Nat), (137 : Nat), (147 : Nat), (0 : Nat)), ((147 : Nat), (149 : Nat), (147 : Nat), (0 : Nat))])
theorem mo_X0_run : mOk M_X0_run := Or.inl (lkA q1453)
theorem mp_X0_run : mPl M_X0_run 0 := ⟨⟨by decide +kernel, by decide +kernel⟩, by decide +kernel, by decide +kernel⟩
theorem my_X0_run : plainName (mN M_X0_run).cls = true := by decide +kernel
abbrev M_X0_saleOf : Mt := (yX0_saleOf, cX0_saleOf, 3, (Option.some Jvm.ClassFile.FieldType.int), [])
theorem mo_X0_saleOf : mOk M_X0_saleOf := Or.inr ⟨rfl, (lkA q1406)⟩
theorem mp_X0_saleOf : mPl M_X0_saleOf 2 := ⟨⟨by decide +kernel, by decide +kernel⟩, by decide +kernel, by decide +kernel⟩
theorem my_X0_saleOf : plainName (mN M_X0_saleOf).cls = true := by decide +kernel
abbrev M_X0_save : Mt := (yX0_save, cX0_save, 1, (Option.some Jvm.ClassFile.FieldType.int), [])
theorem mo_X0_save : mOk M_X0_save := Or.inr ⟨rfl, (lkA q1872)⟩
theorem mp_X0_save : mPl M_X0_save 0 := ⟨⟨by decide +kernel, by decide +kernel⟩, by decide +kernel, by decide +kernel⟩
theorem my_X0_save : plainName (mN M_X0_save).cls = true := by decide +kernel
abbrev M_X0_seller : Mt := (yX0_seller, cX0_seller, 4, (Option.some Jvm.ClassFile.FieldType.int), [((21 : Nat), (34 : Nat), (35 : Nat), (40 : Nat))])
theorem mo_X0_seller : mOk M_X0_seller := Or.inl (lkA q429)
theorem mp_X0_seller : mPl M_X0_seller 1 := ⟨⟨by decide +kernel, by decide +kernel⟩, by decide +kernel, by decide +kernel⟩
theorem my_X0_seller : plainName (mN M_X0_seller).cls = true := by decide +kernel
abbrev M_X0_sellerOf : Mt := (yX0_sellerOf, cX0_sellerOf, 3, (Option.some Jvm.ClassFile.FieldType.int), [])
theorem mo_X0_sellerOf : mOk M_X0_sellerOf := Or.inr ⟨rfl, (lkA q1210)⟩
theorem mp_X0_sellerOf : mPl M_X0_sellerOf 2 := ⟨⟨by decide +kernel, by decide +kernel⟩, by decide +kernel, by decide +kernel⟩
theorem my_X0_sellerOf : plainName (mN M_X0_sellerOf).cls = true := by decide +kernel
abbrev M_X0_soles : Mt := (yX0_soles, cX0_soles, 4, (Option.some Jvm.ClassFile.FieldType.int), [((22 : Nat), (35 : Nat), (36 : Nat), (40 : Nat))])
theorem mo_X0_soles : mOk M_X0_soles := Or.inl (lkA q1285)
theorem mp_X0_soles : mPl M_X0_soles 1 := ⟨⟨by decide +kernel, by decide +kernel⟩, by decide +kernel, by decide +kernel⟩
theorem my_X0_soles : plainName (mN M_X0_soles).cls = true := by decide +kernel
abbrev M_X0_take : Mt := (yX0_take, cX0_take, 6, (Option.some Jvm.ClassFile.FieldType.int), [((40 : Nat), (56 : Nat), (57 : Nat), (40 : Nat))])
theorem mo_X0_take : mOk M_X0_take := Or.inl (lkA q1160)
theorem mp_X0_take : mPl M_X0_take 3 := ⟨⟨by decide +kernel, by decide +kernel⟩, by decide +kernel, by decide +kernel⟩
theorem my_X0_take : plainName (mN M_X0_take).cls = true := by decide +kernel
abbrev M_X0_tell : Mt := (yX0_tell, cX0_tell, 2, (Option.some Jvm.ClassFile.FieldType.int), [])
theorem mo_X0_tell : mOk M_X0_tell := Or.inr ⟨rfl, (lkA q1724)⟩
theorem mp_X0_tell : mPl M_X0_tell 1 := ⟨⟨by decide +kernel, by decide +kernel⟩, by decide +kernel, by decide +kernel⟩
theorem my_X0_tell : plainName (mN M_X0_tell).cls = true := by decide +kernel
abbrev M_X0_tellStreet : Mt := (yX0_tellStreet, cX0_tellStreet, 1, (Option.some Jvm.ClassFile.FieldType.int), [])
theorem mo_X0_tellStreet : mOk M_X0_tellStreet := Or.inr ⟨rfl, (lkA q1767)⟩
theorem mp_X0_tellStreet : mPl M_X0_tellStreet 0 := ⟨⟨by decide +kernel, by decide +kernel⟩, by decide +kernel, by decide +kernel⟩
theorem my_X0_tellStreet : plainName (mN M_X0_tellStreet).cls = true := by decide +kernel
abbrev M_X0_undo : Mt := (yX0_undo, cX0_undo, 1, (Option.some Jvm.ClassFile.FieldType.int), [])
theorem mo_X0_undo : mOk M_X0_undo := Or.inr ⟨rfl, (lkA q1853)⟩
theorem mp_X0_undo : mPl M_X0_undo 0 := ⟨⟨by decide +kernel, by decide +kernel⟩, by decide +kernel, by decide +kernel⟩
theorem my_X0_undo : plainName (mN M_X0_undo).cls = true := by decide +kernel
abbrev M_X0_would : Mt := (yX0_would, cX0_would, 5, (Option.some Jvm.ClassFile.FieldType.int), [])
theorem mo_X0_would : mOk M_X0_would := Or.inr ⟨rfl, (lkA q1322)⟩
theorem mp_X0_would : mPl M_X0_would 4 := ⟨⟨by decide +kernel, by decide +kernel⟩, by decide +kernel, by decide +kernel⟩
theorem my_X0_would : plainName (mN M_X0_would).cls = true := by decide +kernel
abbrev M_X1_back : Mt := (yX1_back, cX1_back, 4, (Option.some Jvm.ClassFile.FieldType.int), [])
theorem mo_X1_back : mOk M_X1_back := Or.inr ⟨rfl, (lkA q1823)⟩
theorem mp_X1_back : mPl M_X1_back 0 := ⟨⟨by decide +kernel, by decide +kernel⟩, by decide +kernel, by decide +kernel⟩
theorem my_X1_back : plainName (mN M_X1_back).cls = true := by decide +kernel
abbrev M_X1_bestHouse : Mt := (yX1_bestHouse, cX1_bestHouse, 10, (Option.some Jvm.ClassFile.FieldType.int), [])
theorem mo_X1_bestHouse : mOk M_X1_bestHouse := Or.inr ⟨rfl, (lkA q1352)⟩
theorem mp_X1_bestHouse : mPl M_X1_bestHouse 3 := ⟨⟨by decide +kernel, by decide +kernel⟩, by decide +kernel, by decide +kernel⟩
theorem my_X1_bestHouse : plainName (mN M_X1_bestHouse).cls = true := by decide +kernel
abbrev M_X1_bringsDog : Mt := (yX1_bringsDog, cX1_bringsDog, 4, (Option.some Jvm.ClassFile.FieldType.int), [])
theorem mo_X1_bringsDog : mOk M_X1_bringsDog := Or.inr ⟨rfl, (lkA q1137)⟩
theorem mp_X1_bringsDog : mPl M_X1_bringsDog 2 := ⟨⟨by decide +kernel, by decide +kernel⟩, by decide +kernel, by decide +kernel⟩
theorem my_X1_bringsDog : plainName (mN M_X1_bringsDog).cls = true := by decide +kernel
abbrev M_X1_checkAtDepot : Mt := (yX1_checkAtDepot, cX1_checkAtDepot, 1, (Option.none : Option Jvm.ClassFile.FieldType), [])
theorem mo_X1_checkAtDepot : mOk M_X1_checkAtDepot := Or.inr ⟨rfl, (lkA q1175)⟩
theorem mp_X1_checkAtDepot : mPl M_X1_checkAtDepot 1 := ⟨⟨by decide +kernel, by decide +kernel⟩, by decide +kernel, by decide +kernel⟩
theorem my_X1_checkAtDepot : plainName (mN M_X1_checkAtDepot).cls = true := by decide +kernel
abbrev M_X1_checkEmptying : Mt := (yX1_checkEmptying, cX1_checkEmptying, 4, (Option.none : Option Jvm.ClassFile.FieldType), [])
theorem mo_X1_checkEmptying : mOk M_X1_checkEmptying := Or.inr ⟨rfl, (lkA q1206)⟩
theorem mp_X1_checkEmptying : mPl M_X1_checkEmptying 4 := ⟨⟨by decide +kernel, by decide +kernel⟩, by decide +kernel, by decide +kernel⟩
theorem my_X1_checkEmptying : plainName (mN M_X1_checkEmptying).cls = true := by decide +kernel
abbrev M_X1_checkFilling : Mt := (yX1_checkFilling, cX1_checkFilling, 4, (Option.none : Option Jvm.ClassFile.FieldType), [])
theorem mo_X1_checkFilling : mOk M_X1_checkFilling := Or.inr ⟨rfl, (lkA q1199)⟩
theorem mp_X1_checkFilling : mPl M_X1_checkFilling 4 := ⟨⟨by decide +kernel, by decide +kernel⟩, by decide +kernel, by decide +kernel⟩
theorem my_X1_checkFilling : plainName (mN M_X1_checkFilling).cls = true := by decide +kernel
abbrev M_X1_checkMinutes : Mt := (yX1_checkMinutes, cX1_checkMinutes, 2, (Option.none : Option Jvm.ClassFile.FieldType), [])
theorem mo_X1_checkMinutes : mOk M_X1_checkMinutes := Or.inr ⟨rfl, (lkA q1277)⟩
theorem mp_X1_checkMinutes : mPl M_X1_checkMinutes 1 := ⟨⟨by decide +kernel, by decide +kernel⟩, by decide +kernel, by decide +kernel⟩
theorem my_X1_checkMinutes : plainName (mN M_X1_checkMinutes).cls = true := by decide +kernel
abbrev M_X1_comes : Mt := (yX1_comes, cX1_comes, 2, (Option.some Jvm.ClassFile.FieldType.int), [])
theorem mo_X1_comes : mOk M_X1_comes := Or.inr ⟨rfl, (lkA q1049)⟩
theorem mp_X1_comes : mPl M_X1_comes 1 := ⟨⟨by decide +kernel, by decide +kernel⟩, by decide +kernel, by decide +kernel⟩
theorem my_X1_comes : plainName (mN M_X1_comes).cls = true := by decide +kernel
abbrev M_X1_copy : Mt := (yX1_copy, cX1_copy, 4, (Option.some (Jvm.ClassFile.FieldType.object "BrushSellers$Company")), [])
theorem mo_X1_copy : mOk M_X1_copy := Or.inr ⟨rfl, (lkA q437)⟩
theorem mp_X1_copy : mPl M_X1_copy 0 := ⟨⟨by decide +kernel, by decide +kernel⟩, by decide +kernel, by decide +kernel⟩
theorem my_X1_copy : plainName (mN M_X1_copy).cls = true := by decide +kernel
abbrev M_X1_dayEnds : Mt := (yX1_dayEnds, cX1_dayEnds, 3, (Option.some Jvm.ClassFile.FieldType.int), [])
theorem mo_X1_dayEnds : mOk M_X1_dayEnds := Or.inr ⟨rfl, (lkA q1420)⟩
theorem mp_X1_dayEnds : mPl M_X1_dayEnds 0 := ⟨⟨by decide +kernel, by decide +kernel⟩, by decide +kernel, by decide +kernel⟩
theorem my_X1_dayEnds : plainName (mN M_X1_dayEnds).cls = true := by decide +kernel
abbrev M_X1_dogs : Mt := (yX1_dogs, cX1_dogs, 4, (Option.some Jvm.ClassFile.FieldType.int), [])
theorem mo_X1_dogs : mOk M_X1_dogs := Or.inr ⟨rfl, (lkA q1141)⟩
theorem mp_X1_dogs : mPl M_X1_dogs 0 := ⟨⟨by decide +kernel, by decide +kernel⟩, by decide +kernel, by decide +kernel⟩
theorem my_X1_dogs : plainName (mN M_X1_dogs).cls = true := by decide +kernel
abbrev M_X1_goes : Mt := (yX1_goes, cX1_goes, 5, (Option.some Jvm.ClassFile.FieldType.int), [])
theorem mo_X1_goes : mOk M_X1_goes := Or.inr ⟨rfl, (lkA q1257)⟩
theorem mp_X1_goes : mPl M_X1_goes 2 := ⟨⟨by decide +kernel, by decide +kernel⟩, by decide +kernel, by decide +kernel⟩
theorem my_X1_goes : plainName (mN M_X1_goes).cls = true := by decide +kernel
abbrev M_X1_inCases : Mt := (yX1_inCases, cX1_inCases, 4, (Option.some Jvm.ClassFile.FieldType.int), [])
theorem mo_X1_inCases : mOk M_X1_inCases := Or.inr ⟨rfl, (lkA q1811)⟩
theorem mp_X1_inCases : mPl M_X1_inCases 0 := ⟨⟨by decide +kernel, by decide +kernel⟩, by decide +kernel, by decide +kernel⟩
theorem my_X1_inCases : plainName (mN M_X1_inCases).cls = true := by decide +kernel
abbrev M_X1_inDepot : Mt := (yX1_inDepot, cX1_inDepot, 1, (Option.some Jvm.ClassFile.FieldType.int), [])
theorem mo_X1_inDepot : mOk M_X1_inDepot := Or.inr ⟨rfl, (lkA q1807)⟩
theorem mp_X1_inDepot : mPl M_X1_inDepot 0 := ⟨⟨by decide +kernel, by decide +kernel⟩, by decide +kernel, by decide +kernel⟩
theorem my_X1_inDepot : plainName (mN M_X1_inDepot).cls = true := by decide +kernel
abbrev M_X1_init : Mt := (yX1_init, cX1_init, 2, (Option.none : Option Jvm.ClassFile.FieldType), [])
theorem mo_X1_init : mOk M_X1_init := Or.inr ⟨rfl, (lkA q118)⟩
theorem mp_X1_init : mPl M_X1_init 0 := ⟨⟨by decide +kernel, by decide +kernel⟩, by decide +kernel, by decide +kernel⟩
theorem my_X1_init : plainName (mN M_X1_init).cls = true := by decide +kernel
abbrev M_X1_isBalanced : Mt := (yX1_isBalanced, cX1_isBalanced, 2, (Option.some Jvm.ClassFile.FieldType.boolean), [])
theorem mo_X1_isBalanced : mOk M_X1_isBalanced := Or.inr ⟨rfl, (lkA q1832)⟩
theorem mp_X1_isBalanced : mPl M_X1_isBalanced 0 := ⟨⟨by decide +kernel, by decide +kernel⟩, by decide +kernel, by decide +kernel⟩
theorem my_X1_isBalanced : plainName (mN M_X1_isBalanced).cls = true := by decide +kernel
abbrev M_X1_isSale : Mt := (yX1_isSale, cX1_isSale, 2, (Option.some Jvm.ClassFile.FieldType.boolean), [])
theorem mo_X1_isSale : mOk M_X1_isSale := Or.inr ⟨rfl, (lkA q1397)⟩
theorem mp_X1_isSale : mPl M_X1_isSale 1 := ⟨⟨by decide +kernel, by decide +kernel⟩, by decide +kernel, by decide +kernel⟩
theorem my_X1_isSale : plainName (mN M_X1_isSale).cls = true := by decide +kernel
abbrev M_X1_isSeller : Mt := (yX1_isSeller, cX1_isSeller, 2, (Option.some Jvm.ClassFile.FieldType.boolean), [])
theorem mo_X1_isSeller : mOk M_X1_isSeller := Or.inr ⟨rfl, (lkA q1164)⟩
theorem mp_X1_isSeller : mPl M_X1_isSeller 1 := ⟨⟨by decide +kernel, by decide +kernel⟩, by decide +kernel, by decide +kernel⟩
theorem my_X1_isSeller : plainName (mN M_X1_isSeller).cls = true := by decide +kernel
abbrev M_X1_makes : Mt := (yX1_makes, cX1_makes, 4, (Option.some Jvm.ClassFile.FieldType.int), [])
theorem mo_X1_makes : mOk M_X1_makes := Or.inr ⟨rfl, (lkA q1152)⟩
theorem mp_X1_makes : mPl M_X1_makes 2 := ⟨⟨by decide +kernel, by decide +kernel⟩, by decide +kernel, by decide +kernel⟩
theorem my_X1_makes : plainName (mN M_X1_makes).cls = true := by decide +kernel
abbrev M_X1_pays : Mt := (yX1_pays, cX1_pays, 2, (Option.none : Option Jvm.ClassFile.FieldType), [])
theorem mo_X1_pays : mOk M_X1_pays := Or.inr ⟨rfl, (lkA q1156)⟩
theorem mp_X1_pays : mPl M_X1_pays 1 := ⟨⟨by decide +kernel, by decide +kernel⟩, by decide +kernel, by decide +kernel⟩
theorem my_X1_pays : plainName (mN M_X1_pays).cls = true := by decide +kernel
abbrev M_X1_pets : Mt := (yX1_pets, cX1_pets, 4, (Option.some Jvm.ClassFile.FieldType.int), [])
theorem mo_X1_pets : mOk M_X1_pets := Or.inr ⟨rfl, (lkA q1297)⟩
theorem mp_X1_pets : mPl M_X1_pets 1 := ⟨⟨by decide +kernel, by decide +kernel⟩, by decide +kernel, by decide +kernel⟩
theorem my_X1_pets : plainName (mN M_X1_pets).cls = true := by decide +kernel
abbrev M_X1_rings : Mt := (yX1_rings, cX1_rings, 7, (Option.some Jvm.ClassFile.FieldType.int), [])
theorem mo_X1_rings : mOk M_X1_rings := Or.inr ⟨rfl, (lkA q1361)⟩
theorem mp_X1_rings : mPl M_X1_rings 3 := ⟨⟨by decide +kernel, by decide +kernel⟩, by decide +kernel, by decide +kernel⟩
theorem my_X1_rings : plainName (mN M_X1_rings).cls = true := by decide +kernel
abbrev M_X1_sells : Mt := (yX1_sells, cX1_sells, 3, (Option.none : Option Jvm.ClassFile.FieldType), [])
theorem mo_X1_sells : mOk M_X1_sells := Or.inr ⟨rfl, (lkA q1385)⟩
theorem mp_X1_sells : mPl M_X1_sells 2 := ⟨⟨by decide +kernel, by decide +kernel⟩, by decide +kernel, by decide +kernel⟩
theorem my_X1_sells : plainName (mN M_X1_sells).cls = true := by decide +kernel
abbrev M_X1_sold : Mt := (yX1_sold, cX1_sold, 4, (Option.some Jvm.ClassFile.FieldType.int), [])
theorem mo_X1_sold : mOk M_X1_sold := Or.inr ⟨rfl, (lkA q1819)⟩
theorem mp_X1_sold : mPl M_X1_sold 0 := ⟨⟨by decide +kernel, by decide +kernel⟩, by decide +kernel, by decide +kernel⟩
theorem my_X1_sold : plainName (mN M_X1_sold).cls = true := by decide +kernel
abbrev M_X1_soles : Mt := (yX1_soles, cX1_soles, 4, (Option.some Jvm.ClassFile.FieldType.int), [])
theorem mo_X1_soles : mOk M_X1_soles := Or.inr ⟨rfl, (lkA q1289)⟩
theorem mp_X1_soles : mPl M_X1_soles 1 := ⟨⟨by decide +kernel, by decide +kernel⟩, by decide +kernel, by decide +kernel⟩
theorem my_X1_soles : plainName (mN M_X1_soles).cls = true := by decide +kernel
abbrev M_X1_streetTold : Mt := (yX1_streetTold, cX1_streetTold, 4, (Option.some (Jvm.ClassFile.FieldType.object "java/lang/String")), [])
theorem mo_X1_streetTold : mOk M_X1_streetTold := Or.inr ⟨rfl, (lkA q1771)⟩
theorem mp_X1_streetTold : mPl M_X1_streetTold 0 := ⟨⟨by decide +kernel, by decide +kernel⟩, by decide +kernel, by decide +kernel⟩
theorem my_X1_streetTold : plainName (mN M_X1_streetTold).cls = true := by decide +kernel
abbrev M_X1_takes : Mt := (yX1_takes, cX1_takes, 5, (Option.some Jvm.ClassFile.FieldType.int), [])
theorem mo_X1_takes : mOk M_X1_takes := Or.inr ⟨rfl, (lkA q1172)⟩
theorem mp_X1_takes : mPl M_X1_takes 3 := ⟨⟨by decide +kernel, by decide +kernel⟩, by decide +kernel, by decide +kernel⟩
theorem my_X1_takes : plainName (mN M_X1_takes).cls = true := by decide +kernel
abbrev M_X1_takesBack : Mt := (yX1_takesBack, cX1_takesBack, 5, (Option.some Jvm.ClassFile.FieldType.int), [])
theorem mo_X1_takesBack : mOk M_X1_takesBack := Or.inr ⟨rfl, (lkA q1401)⟩
theorem mp_X1_takesBack : mPl M_X1_takesBack 1 := ⟨⟨by decide +kernel, by decide +kernel⟩, by decide +kernel, by decide +kernel⟩
theorem my_X1_takesBack : plainName (mN M_X1_takesBack).cls = true := by decide +kernel
abbrev M_X1_takesNumbers : Mt := (yX1_takesNumbers, cX1_takesNumbers, 2, (Option.none : Option Jvm.ClassFile.FieldType), [])
theorem mo_X1_takesNumbers : mOk M_X1_takesNumbers := Or.inr ⟨rfl, (lkA q1045)⟩
theorem mp_X1_takesNumbers : mPl M_X1_takesNumbers 1 := ⟨⟨by decide +kernel, by decide +kernel⟩, by decide +kernel, by decide +kernel⟩
theorem my_X1_takesNumbers : plainName (mN M_X1_takesNumbers).cls = true := by decide +kernel
abbrev M_X1_tempers : Mt := (yX1_tempers, cX1_tempers, 4, (Option.some Jvm.ClassFile.FieldType.int), [])
theorem mo_X1_tempers : mOk M_X1_tempers := Or.inr ⟨rfl, (lkA q1844)⟩
theorem mp_X1_tempers : mPl M_X1_tempers 0 := ⟨⟨by decide +kernel, by decide +kernel⟩, by decide +kernel, by decide +kernel⟩
theorem my_X1_tempers : plainName (mN M_X1_tempers).cls = true := by decide +kernel
abbrev M_X1_would : Mt := (yX1_would, cX1_would, 5, (Option.some Jvm.ClassFile.FieldType.int), [])
theorem mo_X1_would : mOk M_X1_would := Or.inr ⟨rfl, (lkA q1329)⟩
theorem mp_X1_would : mPl M_X1_would 4 := ⟨⟨by decide +kernel, by decide +kernel⟩, by decide +kernel, by decide +kernel⟩
theorem my_X1_would : plainName (mN M_X1_would).cls = true := by decide +kernel
abbrev M_X10_init : Mt := (yX10_init, cX10_init, 2, (Option.none : Option Jvm.ClassFile.FieldType), [])
theorem mo_X10_init : mOk M_X10_init := Or.inr ⟨rfl, (lkA q1564)⟩
theorem mp_X10_init : mPl M_X10_init 1 := ⟨⟨by decide +kernel, by decide +kernel⟩, by decide +kernel, by decide +kernel⟩
theorem my_X10_init : plainName (mN M_X10_init).cls = true := by decide +kernel
abbrev M_X2_buys : Mt := (yX2_buys, cX2_buys, 3, (Option.none : Option Jvm.ClassFile.FieldType), [])
theorem mo_X2_buys : mOk M_X2_buys := Or.inr ⟨rfl, (lkA q1371)⟩
theorem mp_X2_buys : mPl M_X2_buys 2 := ⟨⟨by decide +kernel, by decide +kernel⟩, by decide +kernel, by decide +kernel⟩
theorem my_X2_buys : plainName (mN M_X2_buys).cls = true := by decide +kernel
abbrev M_X2_copy : Mt := (yX2_copy, cX2_copy, 2, (Option.some (Jvm.ClassFile.FieldType.object "BrushSellers$House")), [])
theorem mo_X2_copy : mOk M_X2_copy := Or.inr ⟨rfl, (lkA q457)⟩
theorem mp_X2_copy : mPl M_X2_copy 0 := ⟨⟨by decide +kernel, by decide +kernel⟩, by decide +kernel, by decide +kernel⟩
theorem my_X2_copy : plainName (mN M_X2_copy).cls = true := by decide +kernel
abbrev M_X2_dayEnds : Mt := (yX2_dayEnds, cX2_dayEnds, 1, (Option.none : Option Jvm.ClassFile.FieldType), [])
theorem mo_X2_dayEnds : mOk M_X2_dayEnds := Or.inr ⟨rfl, (lkA q1424)⟩
theorem mp_X2_dayEnds : mPl M_X2_dayEnds 0 := ⟨⟨by decide +kernel, by decide +kernel⟩, by decide +kernel, by decide +kernel⟩
theorem my_X2_dayEnds : plainName (mN M_X2_dayEnds).cls = true := by decide +kernel
abbrev M_X2_house : Mt := (yX2_house, cX2_house, 1, (Option.some Jvm.ClassFile.FieldType.int), [])
theorem mo_X2_house : mOk M_X2_house := Or.inr ⟨rfl, (lkA q1190)⟩
theorem mp_X2_house : mPl M_X2_house 0 := ⟨⟨by decide +kernel, by decide +kernel⟩, by decide +kernel, by decide +kernel⟩
theorem my_X2_house : plainName (mN M_X2_house).cls = true := by decide +kernel
abbrev M_X2_init : Mt := (yX2_init, cX2_init, 2, (Option.none : Option Jvm.ClassFile.FieldType), [])
theorem mo_X2_init : mOk M_X2_init := Or.inr ⟨rfl, (lkA q180)⟩
theorem mp_X2_init : mPl M_X2_init 1 := ⟨⟨by decide +kernel, by decide +kernel⟩, by decide +kernel, by decide +kernel⟩
theorem my_X2_init : plainName (mN M_X2_init).cls = true := by decide +kernel
abbrev M_X2_isGuarded : Mt := (yX2_isGuarded, cX2_isGuarded, 1, (Option.some Jvm.ClassFile.FieldType.boolean), [])
theorem mo_X2_isGuarded : mOk M_X2_isGuarded := Or.inr ⟨rfl, (lkA q1301)⟩
theorem mp_X2_isGuarded : mPl M_X2_isGuarded 0 := ⟨⟨by decide +kernel, by decide +kernel⟩, by decide +kernel, by decide +kernel⟩
theorem my_X2_isGuarded : plainName (mN M_X2_isGuarded).cls = true := by decide +kernel
abbrev M_X2_listensTo : Mt := (yX2_listensTo, cX2_listensTo, 3, (Option.some Jvm.ClassFile.FieldType.boolean), [])
theorem mo_X2_listensTo : mOk M_X2_listensTo := Or.inr ⟨rfl, (lkA q1333)⟩
theorem mp_X2_listensTo : mPl M_X2_listensTo 1 := ⟨⟨by decide +kernel, by decide +kernel⟩, by decide +kernel, by decide +kernel⟩
theorem my_X2_listensTo : plainName (mN M_X2_listensTo).cls = true := by decide +kernel
abbrev M_X2_pleases : Mt := (yX2_pleases, cX2_pleases, 2, (Option.none : Option Jvm.ClassFile.FieldType), [])
theorem mo_X2_pleases : mOk M_X2_pleases := Or.inr ⟨rfl, (lkA q1366)⟩
theorem mp_X2_pleases : mPl M_X2_pleases 1 := ⟨⟨by decide +kernel, by decide +kernel⟩, by decide +kernel, by decide +kernel⟩
theorem my_X2_pleases : plainName (mN M_X2_pleases).cls = true := by decide +kernel
abbrev M_X2_set : Mt := (yX2_set, cX2_set, 3, (Option.some Jvm.ClassFile.FieldType.int), [])
theorem mo_X2_set : mOk M_X2_set := Or.inr ⟨rfl, (lkA q1233)⟩
theorem mp_X2_set : mPl M_X2_set 0 := ⟨⟨by decide +kernel, by decide +kernel⟩, by decide +kernel, by decide +kernel⟩
theorem my_X2_set : plainName (mN M_X2_set).cls = true := by decide +kernel
abbrev M_X2_steps : Mt := (yX2_steps, cX2_steps, 1, (Option.some Jvm.ClassFile.FieldType.int), [])
theorem mo_X2_steps : mOk M_X2_steps := Or.inr ⟨rfl, (lkA q1229)⟩
theorem mp_X2_steps : mPl M_X2_steps 0 := ⟨⟨by decide +kernel, by decide +kernel⟩, by decide +kernel, by decide +kernel⟩
theorem my_X2_steps : plainName (mN M_X2_steps).cls = true := by decide +kernel
abbrev M_X2_text : Mt := (yX2_text, cX2_text, 1, (Option.some (Jvm.ClassFile.FieldType.object "java/lang/String")), [])
theorem mo_X2_text : mOk M_X2_text := Or.inr ⟨rfl, (lkA q1777)⟩
theorem mp_X2_text : mPl M_X2_text 0 := ⟨⟨by decide +kernel, by decide +kernel⟩, by decide +kernel, by decide +kernel⟩
theorem my_X2_text : plainName (mN M_X2_text).cls = true := by decide +kernel
abbrev M_X2_value : Mt := (yX2_value, cX2_value, 2, (Option.some Jvm.ClassFile.FieldType.int), [])
theorem mo_X2_value : mOk M_X2_value := Or.inr ⟨rfl, (lkA q1225)⟩
theorem mp_X2_value : mPl M_X2_value 1 := ⟨⟨by decide +kernel, by decide +kernel⟩, by decide +kernel, by decide +kernel⟩
theorem my_X2_value : plainName (mN M_X2_value).cls = true := by decide +kernel
abbrev M_X2_wants : Mt := (yX2_wants, cX2_wants, 3, (Option.some Jvm.ClassFile.FieldType.int), [])
theorem mo_X2_wants : mOk M_X2_wants := Or.inr ⟨rfl, (lkA q1338)⟩
theorem mp_X2_wants : mPl M_X2_wants 2 := ⟨⟨by decide +kernel, by decide +kernel⟩, by decide +kernel, by decide +kernel⟩
theorem my_X2_wants : plainName (mN M_X2_wants).cls = true := by decide +kernel
abbrev M_X3_account : Mt := (yX3_account, cX3_account, 2, (Option.some Jvm.ClassFile.FieldType.int), [])
theorem mo_X3_account : mOk M_X3_account := Or.inr ⟨rfl, (lkA q2199)⟩
theorem mp_X3_account : mPl M_X3_account 1 := ⟨⟨by decide +kernel, by decide +kernel⟩, by decide +kernel, by decide +kernel⟩
theorem my_X3_account : plainName (mN M_X3_account).cls = true := by decide +kernel
abbrev M_X3_adds : Mt := (yX3_adds, cX3_adds, 4, (Option.none : Option Jvm.ClassFile.FieldType), [])
theorem mo_X3_adds : mOk M_X3_adds := Or.inr ⟨rfl, (lkA q2003)⟩
theorem mp_X3_adds : mPl M_X3_adds 3 := ⟨⟨by decide +kernel, by decide +kernel⟩, by decide +kernel, by decide +kernel⟩
theorem my_X3_adds : plainName (mN M_X3_adds).cls = true := by decide +kernel
abbrev M_X3_append : Mt := (yX3_append, cX3_append, 2, (Option.some Jvm.ClassFile.FieldType.int), [])
theorem mo_X3_append : mOk M_X3_append := Or.inr ⟨rfl, (lkA q2122)⟩
theorem mp_X3_append : mPl M_X3_append 1 := ⟨⟨by decide +kernel, by decide +kernel⟩, by decide +kernel, by decide +kernel⟩
theorem my_X3_append : plainName (mN M_X3_append).cls = true := by decide +kernel
abbrev M_X3_back : Mt := (yX3_back, cX3_back, 2, (Option.some Jvm.ClassFile.FieldType.int), [])
theorem mo_X3_back : mOk M_X3_back := Or.inr ⟨rfl, (lkA q2102)⟩
theorem mp_X3_back : mPl M_X3_back 1 := ⟨⟨by decide +kernel, by decide +kernel⟩, by decide +kernel, by decide +kernel⟩
theorem my_X3_back : plainName (mN M_X3_back).cls = true := by decide +kernel
abbrev M_X3_backShare : Mt := (yX3_backShare, cX3_backShare, 1, (Option.some Jvm.ClassFile.FieldType.float), [])
theorem mo_X3_backShare : mOk M_X3_backShare := Or.inr ⟨rfl, (lkA q2220)⟩
theorem mp_X3_backShare : mPl M_X3_backShare 0 := ⟨⟨by decide +kernel, by decide +kernel⟩, by decide +kernel, by decide +kernel⟩
theorem my_X3_backShare : plainName (mN M_X3_backShare).cls = true := by decide +kernel
abbrev M_X3_bestHouse : Mt := (yX3_bestHouse, cX3_bestHouse, 10, (Option.some Jvm.ClassFile.FieldType.int), [])
theorem mo_X3_bestHouse : mOk M_X3_bestHouse := Or.inr ⟨rfl, (lkA q2086)⟩
theorem mp_X3_bestHouse : mPl M_X3_bestHouse 3 := ⟨⟨by decide +kernel, by decide +kernel⟩, by decide +kernel, by decide +kernel⟩
theorem my_X3_bestHouse : plainName (mN M_X3_bestHouse).cls = true := by decide +kernel
abbrev M_X3_calms : Mt := (yX3_calms, cX3_calms, 3, (Option.none : Option Jvm.ClassFile.FieldType), [])
theorem mo_X3_calms : mOk M_X3_calms := Or.inr ⟨rfl, (lkA q2098)⟩
theorem mp_X3_calms : mPl M_X3_calms 2 := ⟨⟨by decide +kernel, by decide +kernel⟩, by decide +kernel, by decide +kernel⟩
theorem my_X3_calms : plainName (mN M_X3_calms).cls = true := by decide +kernel
abbrev M_X3_carries : Mt := (yX3_carries, cX3_carries, 1, (Option.some Jvm.ClassFile.FieldType.int), [])
theorem mo_X3_carries : mOk M_X3_carries := Or.inr ⟨rfl, (lkA q2160)⟩
theorem mp_X3_carries : mPl M_X3_carries 0 := ⟨⟨by decide +kernel, by decide +kernel⟩, by decide +kernel, by decide +kernel⟩
theorem my_X3_carries : plainName (mN M_X3_carries).cls = true := by decide +kernel
abbrev M_X3_character : Mt := (yX3_character, cX3_character, 2, (Option.some Jvm.ClassFile.FieldType.int), [])
theorem mo_X3_character : mOk M_X3_character := Or.inr ⟨rfl, (lkA q2191)⟩
theorem mp_X3_character : mPl M_X3_character 1 := ⟨⟨by decide +kernel, by decide +kernel⟩, by decide +kernel, by decide +kernel⟩
theorem my_X3_character : plainName (mN M_X3_character).cls = true := by decide +kernel
abbrev M_X3_comesBack : Mt := (yX3_comesBack, cX3_comesBack, 2, (Option.none : Option Jvm.ClassFile.FieldType), [])
theorem mo_X3_comesBack : mOk M_X3_comesBack := Or.inr ⟨rfl, (lkA q2164)⟩
theorem mp_X3_comesBack : mPl M_X3_comesBack 0 := ⟨⟨by decide +kernel, by decide +kernel⟩, by decide +kernel, by decide +kernel⟩
theorem my_X3_comesBack : plainName (mN M_X3_comesBack).cls = true := by decide +kernel
abbrev M_X3_day : Mt := (yX3_day, cX3_day, 1, (Option.some Jvm.ClassFile.FieldType.int), [])
theorem mo_X3_day : mOk M_X3_day := Or.inr ⟨rfl, (lkA q2114)⟩
theorem mp_X3_day : mPl M_X3_day 0 := ⟨⟨by decide +kernel, by decide +kernel⟩, by decide +kernel, by decide +kernel⟩
theorem my_X3_day : plainName (mN M_X3_day).cls = true := by decide +kernel
abbrev M_X3_depot : Mt := (yX3_depot, cX3_depot, 2, (Option.some Jvm.ClassFile.FieldType.int), [])
theorem mo_X3_depot : mOk M_X3_depot := Or.inr ⟨rfl, (lkA q2030)⟩
theorem mp_X3_depot : mPl M_X3_depot 1 := ⟨⟨by decide +kernel, by decide +kernel⟩, by decide +kernel, by decide +kernel⟩
theorem my_X3_depot : plainName (mN M_X3_depot).cls = true := by decide +kernel
abbrev M_X3_digits : Mt := (yX3_digits, cX3_digits, 4, (Option.some Jvm.ClassFile.FieldType.boolean), [])
theorem mo_X3_digits : mOk M_X3_digits := Or.inr ⟨rfl, (lkA q2141)⟩
theorem mp_X3_digits : mPl M_X3_digits 2 := ⟨⟨by decide +kernel, by decide +kernel⟩, by decide +kernel, by decide +kernel⟩
theorem my_X3_digits : plainName (mN M_X3_digits).cls = true := by decide +kernel
abbrev M_X3_does : Mt := (yX3_does, cX3_does, 2, (Option.some Jvm.ClassFile.FieldType.int), [])
theorem mo_X3_does : mOk M_X3_does := Or.inr ⟨rfl, (lkA q2007)⟩
theorem mp_X3_does : mPl M_X3_does 1 := ⟨⟨by decide +kernel, by decide +kernel⟩, by decide +kernel, by decide +kernel⟩
theorem my_X3_does : plainName (mN M_X3_does).cls = true := by decide +kernel
abbrev M_X3_dog : Mt := (yX3_dog, cX3_dog, 3, (Option.some Jvm.ClassFile.FieldType.int), [])
theorem mo_X3_dog : mOk M_X3_dog := Or.inr ⟨rfl, (lkA q1961)⟩
theorem mp_X3_dog : mPl M_X3_dog 2 := ⟨⟨by decide +kernel, by decide +kernel⟩, by decide +kernel, by decide +kernel⟩
theorem my_X3_dog : plainName (mN M_X3_dog).cls = true := by decide +kernel
abbrev M_X3_dogs : Mt := (yX3_dogs, cX3_dogs, 3, (Option.some Jvm.ClassFile.FieldType.int), [])
theorem mo_X3_dogs : mOk M_X3_dogs := Or.inr ⟨rfl, (lkA q1972)⟩
theorem mp_X3_dogs : mPl M_X3_dogs 0 := ⟨⟨by decide +kernel, by decide +kernel⟩, by decide +kernel, by decide +kernel⟩
theorem my_X3_dogs : plainName (mN M_X3_dogs).cls = true := by decide +kernel
abbrev M_X3_ends : Mt := (yX3_ends, cX3_ends, 2, (Option.some Jvm.ClassFile.FieldType.int), [])
theorem mo_X3_ends : mOk M_X3_ends := Or.inr ⟨rfl, (lkA q2011)⟩
theorem mp_X3_ends : mPl M_X3_ends 1 := ⟨⟨by decide +kernel, by decide +kernel⟩, by decide +kernel, by decide +kernel⟩
theorem my_X3_ends : plainName (mN M_X3_ends).cls = true := by decide +kernel
abbrev M_X3_go : Mt := (yX3_go, cX3_go, 3, (Option.some Jvm.ClassFile.FieldType.int), [])
theorem mo_X3_go : mOk M_X3_go := Or.inr ⟨rfl, (lkA q2034)⟩
theorem mp_X3_go : mPl M_X3_go 2 := ⟨⟨by decide +kernel, by decide +kernel⟩, by decide +kernel, by decide +kernel⟩
theorem my_X3_go : plainName (mN M_X3_go).cls = true := by decide +kernel
abbrev M_X3_goes : Mt := (yX3_goes, cX3_goes, 4, (Option.some Jvm.ClassFile.FieldType.int), [])
theorem mo_X3_goes : mOk M_X3_goes := Or.inr ⟨rfl, (lkA q2038)⟩
theorem mp_X3_goes : mPl M_X3_goes 2 := ⟨⟨by decide +kernel, by decide +kernel⟩, by decide +kernel, by decide +kernel⟩
theorem my_X3_goes : plainName (mN M_X3_goes).cls = true := by decide +kernel
abbrev M_X3_houseOf : Mt := (yX3_houseOf, cX3_houseOf, 3, (Option.some Jvm.ClassFile.FieldType.int), [])
theorem mo_X3_houseOf : mOk M_X3_houseOf := Or.inr ⟨rfl, (lkA q2019)⟩
theorem mp_X3_houseOf : mPl M_X3_houseOf 2 := ⟨⟨by decide +kernel, by decide +kernel⟩, by decide +kernel, by decide +kernel⟩
theorem my_X3_houseOf : plainName (mN M_X3_houseOf).cls = true := by decide +kernel
abbrev M_X3_in : Mt := (yX3_in, cX3_in, 3, (Option.some Jvm.ClassFile.FieldType.boolean), [])
theorem mo_X3_in : mOk M_X3_in := Or.inr ⟨rfl, (lkA q1949)⟩
theorem mp_X3_in : mPl M_X3_in 3 := ⟨⟨by decide +kernel, by decide +kernel⟩, by decide +kernel, by decide +kernel⟩
theorem my_X3_in : plainName (mN M_X3_in).cls = true := by decide +kernel
abbrev M_X3_inCases : Mt := (yX3_inCases, cX3_inCases, 4, (Option.some Jvm.ClassFile.FieldType.int), [])
theorem mo_X3_inCases : mOk M_X3_inCases := Or.inr ⟨rfl, (lkA q2207)⟩
theorem mp_X3_inCases : mPl M_X3_inCases 0 := ⟨⟨by decide +kernel, by decide +kernel⟩, by decide +kernel, by decide +kernel⟩
theorem my_X3_inCases : plainName (mN M_X3_inCases).cls = true := by decide +kernel
abbrev M_X3_inDepot : Mt := (yX3_inDepot, cX3_inDepot, 1, (Option.some Jvm.ClassFile.FieldType.int), [])
theorem mo_X3_inDepot : mOk M_X3_inDepot := Or.inr ⟨rfl, (lkA q2203)⟩
theorem mp_X3_inDepot : mPl M_X3_inDepot 0 := ⟨⟨by decide +kernel, by decide +kernel⟩, by decide +kernel, by decide +kernel⟩
theorem my_X3_inDepot : plainName (mN M_X3_inDepot).cls = true := by decide +kernel
abbrev M_X3_init : Mt := (yX3_init, cX3_init, 2, (Option.none : Option Jvm.ClassFile.FieldType), [])
theorem mo_X3_init : mOk M_X3_init := Or.inr ⟨rfl, (lkA q1888)⟩
theorem mp_X3_init : mPl M_X3_init 0 := ⟨⟨by decide +kernel, by decide +kernel⟩, by decide +kernel, by decide +kernel⟩
theorem my_X3_init : plainName (mN M_X3_init).cls = true := by decide +kernel
abbrev M_X3_isBalanced : Mt := (yX3_isBalanced, cX3_isBalanced, 2, (Option.some Jvm.ClassFile.FieldType.int), [])
theorem mo_X3_isBalanced : mOk M_X3_isBalanced := Or.inr ⟨rfl, (lkA q2211)⟩
theorem mp_X3_isBalanced : mPl M_X3_isBalanced 0 := ⟨⟨by decide +kernel, by decide +kernel⟩, by decide +kernel, by decide +kernel⟩
theorem my_X3_isBalanced : plainName (mN M_X3_isBalanced).cls = true := by decide +kernel
abbrev M_X3_isBristle : Mt := (yX3_isBristle, cX3_isBristle, 1, (Option.some Jvm.ClassFile.FieldType.boolean), [])
theorem mo_X3_isBristle : mOk M_X3_isBristle := Or.inr ⟨rfl, (lkA q1979)⟩
theorem mp_X3_isBristle : mPl M_X3_isBristle 1 := ⟨⟨by decide +kernel, by decide +kernel⟩, by decide +kernel, by decide +kernel⟩
theorem my_X3_isBristle : plainName (mN M_X3_isBristle).cls = true := by decide +kernel
abbrev M_X3_isHouse : Mt := (yX3_isHouse, cX3_isHouse, 1, (Option.some Jvm.ClassFile.FieldType.boolean), [])
theorem mo_X3_isHouse : mOk M_X3_isHouse := Or.inr ⟨rfl, (lkA q1964)⟩
theorem mp_X3_isHouse : mPl M_X3_isHouse 1 := ⟨⟨by decide +kernel, by decide +kernel⟩, by decide +kernel, by decide +kernel⟩
theorem my_X3_isHouse : plainName (mN M_X3_isHouse).cls = true := by decide +kernel
abbrev M_X3_isOrder : Mt := (yX3_isOrder, cX3_isOrder, 1, (Option.some Jvm.ClassFile.FieldType.boolean), [])
theorem mo_X3_isOrder : mOk M_X3_isOrder := Or.inr ⟨rfl, (lkA q2130)⟩
theorem mp_X3_isOrder : mPl M_X3_isOrder 0 := ⟨⟨by decide +kernel, by decide +kernel⟩, by decide +kernel, by decide +kernel⟩
theorem my_X3_isOrder : plainName (mN M_X3_isOrder).cls = true := by decide +kernel
abbrev M_X3_isSeller : Mt := (yX3_isSeller, cX3_isSeller, 2, (Option.some Jvm.ClassFile.FieldType.boolean), [])
theorem mo_X3_isSeller : mOk M_X3_isSeller := Or.inr ⟨rfl, (lkA q1995)⟩
theorem mp_X3_isSeller : mPl M_X3_isSeller 1 := ⟨⟨by decide +kernel, by decide +kernel⟩, by decide +kernel, by decide +kernel⟩
theorem my_X3_isSeller : plainName (mN M_X3_isSeller).cls = true := by decide +kernel
abbrev M_X3_keeps : Mt := (yX3_keeps, cX3_keeps, 3, (Option.some Jvm.ClassFile.FieldType.int), [])
theorem mo_X3_keeps : mOk M_X3_keeps := Or.inr ⟨rfl, (lkA q1957)⟩
theorem mp_X3_keeps : mPl M_X3_keeps 1 := ⟨⟨by decide +kernel, by decide +kernel⟩, by decide +kernel, by decide +kernel⟩
theorem my_X3_keeps : plainName (mN M_X3_keeps).cls = true := by decide +kernel
abbrev M_X3_left : Mt := (yX3_left, cX3_left, 1, (Option.some Jvm.ClassFile.FieldType.int), [])
theorem mo_X3_left : mOk M_X3_left := Or.inr ⟨rfl, (lkA q2043)⟩
theorem mp_X3_left : mPl M_X3_left 0 := ⟨⟨by decide +kernel, by decide +kernel⟩, by decide +kernel, by decide +kernel⟩
theorem my_X3_left : plainName (mN M_X3_left).cls = true := by decide +kernel
abbrev M_X3_listens : Mt := (yX3_listens, cX3_listens, 4, (Option.some Jvm.ClassFile.FieldType.boolean), [])
theorem mo_X3_listens : mOk M_X3_listens := Or.inr ⟨rfl, (lkA q2081)⟩
theorem mp_X3_listens : mPl M_X3_listens 2 := ⟨⟨by decide +kernel, by decide +kernel⟩, by decide +kernel, by decide +kernel⟩
theorem my_X3_listens : plainName (mN M_X3_listens).cls = true := by decide +kernel
abbrev M_X3_make : Mt := (yX3_make, cX3_make, 4, (Option.some Jvm.ClassFile.FieldType.int), [])
theorem mo_X3_make : mOk M_X3_make := Or.inr ⟨rfl, (lkA q1976)⟩
theorem mp_X3_make : mPl M_X3_make 2 := ⟨⟨by decide +kernel, by decide +kernel⟩, by decide +kernel, by decide +kernel⟩
theorem my_X3_make : plainName (mN M_X3_make).cls = true := by decide +kernel
abbrev M_X3_meanTemper : Mt := (yX3_meanTemper, cX3_meanTemper, 3, (Option.some Jvm.ClassFile.FieldType.double), [])
theorem mo_X3_meanTemper : mOk M_X3_meanTemper := Or.inr ⟨rfl, (lkA q2215)⟩
theorem mp_X3_meanTemper : mPl M_X3_meanTemper 0 := ⟨⟨by decide +kernel, by decide +kernel⟩, by decide +kernel, by decide +kernel⟩
theorem my_X3_meanTemper : plainName (mN M_X3_meanTemper).cls = true := by decide +kernel
abbrev M_X3_mood : Mt := (yX3_mood, cX3_mood, 2, (Option.some Jvm.ClassFile.FieldType.int), [])
theorem mo_X3_mood : mOk M_X3_mood := Or.inr ⟨rfl, (lkA q1968)⟩
theorem mp_X3_mood : mPl M_X3_mood 1 := ⟨⟨by decide +kernel, by decide +kernel⟩, by decide +kernel, by decide +kernel⟩
theorem my_X3_mood : plainName (mN M_X3_mood).cls = true := by decide +kernel
abbrev M_X3_of : Mt := (yX3_of, cX3_of, 3, (Option.some Jvm.ClassFile.FieldType.int), [])
theorem mo_X3_of : mOk M_X3_of := Or.inr ⟨rfl, (lkA q1999)⟩
theorem mp_X3_of : mPl M_X3_of 2 := ⟨⟨by decide +kernel, by decide +kernel⟩, by decide +kernel, by decide +kernel⟩
theorem my_X3_of : plainName (mN M_X3_of).cls = true := by decide +kernel
abbrev M_X3_passes : Mt := (yX3_passes, cX3_passes, 3, (Option.some Jvm.ClassFile.FieldType.int), [])
theorem mo_X3_passes : mOk M_X3_passes := Or.inr ⟨rfl, (lkA q2118)⟩
theorem mp_X3_passes : mPl M_X3_passes 0 := ⟨⟨by decide +kernel, by decide +kernel⟩, by decide +kernel, by decide +kernel⟩
theorem my_X3_passes : plainName (mN M_X3_passes).cls = true := by decide +kernel
abbrev M_X3_pet : Mt := (yX3_pet, cX3_pet, 2, (Option.some Jvm.ClassFile.FieldType.int), [])
theorem mo_X3_pet : mOk M_X3_pet := Or.inr ⟨rfl, (lkA q2055)⟩
theorem mp_X3_pet : mPl M_X3_pet 1 := ⟨⟨by decide +kernel, by decide +kernel⟩, by decide +kernel, by decide +kernel⟩
theorem my_X3_pet : plainName (mN M_X3_pet).cls = true := by decide +kernel
abbrev M_X3_pets : Mt := (yX3_pets, cX3_pets, 4, (Option.some Jvm.ClassFile.FieldType.int), [])
theorem mo_X3_pets : mOk M_X3_pets := Or.inr ⟨rfl, (lkA q2059)⟩
theorem mp_X3_pets : mPl M_X3_pets 1 := ⟨⟨by decide +kernel, by decide +kernel⟩, by decide +kernel, by decide +kernel⟩
theorem my_X3_pets : plainName (mN M_X3_pets).cls = true := by decide +kernel
abbrev M_X3_reason : Mt := (yX3_reason, cX3_reason, 2, (Option.some Jvm.ClassFile.FieldType.int), [])
theorem mo_X3_reason : mOk M_X3_reason := Or.inr ⟨rfl, (lkA q2195)⟩
theorem mp_X3_reason : mPl M_X3_reason 1 := ⟨⟨by decide +kernel, by decide +kernel⟩, by decide +kernel, by decide +kernel⟩
theorem my_X3_reason : plainName (mN M_X3_reason).cls = true := by decide +kernel
abbrev M_X3_refuses : Mt := (yX3_refuses, cX3_refuses, 3, (Option.some Jvm.ClassFile.FieldType.int), [])
theorem mo_X3_refuses : mOk M_X3_refuses := Or.inr ⟨rfl, (lkA q1953)⟩
theorem mp_X3_refuses : mPl M_X3_refuses 2 := ⟨⟨by decide +kernel, by decide +kernel⟩, by decide +kernel, by decide +kernel⟩
theorem my_X3_refuses : plainName (mN M_X3_refuses).cls = true := by decide +kernel
abbrev M_X3_renews : Mt := (yX3_renews, cX3_renews, 3, (Option.some Jvm.ClassFile.FieldType.int), [])
theorem mo_X3_renews : mOk M_X3_renews := Or.inr ⟨rfl, (lkA q2051)⟩
theorem mp_X3_renews : mPl M_X3_renews 1 := ⟨⟨by decide +kernel, by decide +kernel⟩, by decide +kernel, by decide +kernel⟩
theorem my_X3_renews : plainName (mN M_X3_renews).cls = true := by decide +kernel
abbrev M_X3_restore : Mt := (yX3_restore, cX3_restore, 2, (Option.some Jvm.ClassFile.FieldType.int), [])
theorem mo_X3_restore : mOk M_X3_restore := Or.inr ⟨rfl, (lkA q2232)⟩
theorem mp_X3_restore : mPl M_X3_restore 0 := ⟨⟨by decide +kernel, by decide +kernel⟩, by decide +kernel, by decide +kernel⟩
theorem my_X3_restore : plainName (mN M_X3_restore).cls = true := by decide +kernel
abbrev M_X3_ring : Mt := (yX3_ring, cX3_ring, 4, (Option.some Jvm.ClassFile.FieldType.int), [])
theorem mo_X3_ring : mOk M_X3_ring := Or.inr ⟨rfl, (lkA q2090)⟩
theorem mp_X3_ring : mPl M_X3_ring 3 := ⟨⟨by decide +kernel, by decide +kernel⟩, by decide +kernel, by decide +kernel⟩
theorem my_X3_ring : plainName (mN M_X3_ring).cls = true := by decide +kernel
abbrev M_X3_rings : Mt := (yX3_rings, cX3_rings, 7, (Option.some Jvm.ClassFile.FieldType.int), [])
theorem mo_X3_rings : mOk M_X3_rings := Or.inr ⟨rfl, (lkA q2094)⟩
theorem mp_X3_rings : mPl M_X3_rings 3 := ⟨⟨by decide +kernel, by decide +kernel⟩, by decide +kernel, by decide +kernel⟩
theorem my_X3_rings : plainName (mN M_X3_rings).cls = true := by decide +kernel
abbrev M_X3_rounds : Mt := (yX3_rounds, cX3_rounds, 4, (Option.some Jvm.ClassFile.FieldType.int), [])
theorem mo_X3_rounds : mOk M_X3_rounds := Or.inr ⟨rfl, (lkA q2064)⟩
theorem mp_X3_rounds : mPl M_X3_rounds 2 := ⟨⟨by decide +kernel, by decide +kernel⟩, by decide +kernel, by decide +kernel⟩
theorem my_X3_rounds : plainName (mN M_X3_rounds).cls = true := by decide +kernel
abbrev M_X3_roundsAgain : Mt := (yX3_roundsAgain, cX3_roundsAgain, 3, (Option.some Jvm.ClassFile.FieldType.int), [])
theorem mo_X3_roundsAgain : mOk M_X3_roundsAgain := Or.inr ⟨rfl, (lkA q2068)⟩
theorem mp_X3_roundsAgain : mPl M_X3_roundsAgain 2 := ⟨⟨by decide +kernel, by decide +kernel⟩, by decide +kernel, by decide +kernel⟩
theorem my_X3_roundsAgain : plainName (mN M_X3_roundsAgain).cls = true := by decide +kernel
abbrev M_X3_run : Mt := (yX3_run, cX3_run, 5, (Option.some Jvm.ClassFile.FieldType.int), [])
theorem mo_X3_run : mOk M_X3_run := Or.inr ⟨rfl, (lkA q2126)⟩
theorem mp_X3_run : mPl M_X3_run 0 := ⟨⟨by decide +kernel, by decide +kernel⟩, by decide +kernel, by decide +kernel⟩
theorem my_X3_run : plainName (mN M_X3_run).cls = true := by decide +kernel
abbrev M_X3_saleOf : Mt := (yX3_saleOf, cX3_saleOf, 3, (Option.some Jvm.ClassFile.FieldType.int), [])
theorem mo_X3_saleOf : mOk M_X3_saleOf := Or.inr ⟨rfl, (lkA q2110)⟩
theorem mp_X3_saleOf : mPl M_X3_saleOf 2 := ⟨⟨by decide +kernel, by decide +kernel⟩, by decide +kernel, by decide +kernel⟩
theorem my_X3_saleOf : plainName (mN M_X3_saleOf).cls = true := by decide +kernel
abbrev M_X3_save : Mt := (yX3_save, cX3_save, 2, (Option.some Jvm.ClassFile.FieldType.int), [])
theorem mo_X3_save : mOk M_X3_save := Or.inr ⟨rfl, (lkA q2228)⟩
theorem mp_X3_save : mPl M_X3_save 0 := ⟨⟨by decide +kernel, by decide +kernel⟩, by decide +kernel, by decide +kernel⟩
theorem my_X3_save : plainName (mN M_X3_save).cls = true := by decide +kernel
abbrev M_X3_seller : Mt := (yX3_seller, cX3_seller, 4, (Option.some Jvm.ClassFile.FieldType.int), [])
theorem mo_X3_seller : mOk M_X3_seller := Or.inr ⟨rfl, (lkA q1942)⟩
theorem mp_X3_seller : mPl M_X3_seller 1 := ⟨⟨by decide +kernel, by decide +kernel⟩, by decide +kernel, by decide +kernel⟩
theorem my_X3_seller : plainName (mN M_X3_seller).cls = true := by decide +kernel
abbrev M_X3_sellerOf : Mt := (yX3_sellerOf, cX3_sellerOf, 3, (Option.some Jvm.ClassFile.FieldType.int), [])
theorem mo_X3_sellerOf : mOk M_X3_sellerOf := Or.inr ⟨rfl, (lkA q2015)⟩
theorem mp_X3_sellerOf : mPl M_X3_sellerOf 2 := ⟨⟨by decide +kernel, by decide +kernel⟩, by decide +kernel, by decide +kernel⟩
theorem my_X3_sellerOf : plainName (mN M_X3_sellerOf).cls = true := by decide +kernel
abbrev M_X3_signed : Mt := (yX3_signed, cX3_signed, 3, (Option.some Jvm.ClassFile.FieldType.boolean), [])
theorem mo_X3_signed : mOk M_X3_signed := Or.inr ⟨rfl, (lkA q2151)⟩
theorem mp_X3_signed : mPl M_X3_signed 1 := ⟨⟨by decide +kernel, by decide +kernel⟩, by decide +kernel, by decide +kernel⟩
theorem my_X3_signed : plainName (mN M_X3_signed).cls = true := by decide +kernel
abbrev M_X3_soles : Mt := (yX3_soles, cX3_soles, 2, (Option.some Jvm.ClassFile.FieldType.int), [])
theorem mo_X3_soles : mOk M_X3_soles := Or.inr ⟨rfl, (lkA q2047)⟩
theorem mp_X3_soles : mPl M_X3_soles 1 := ⟨⟨by decide +kernel, by decide +kernel⟩, by decide +kernel, by decide +kernel⟩
theorem my_X3_soles : plainName (mN M_X3_soles).cls = true := by decide +kernel
abbrev M_X3_spends : Mt := (yX3_spends, cX3_spends, 2, (Option.some Jvm.ClassFile.FieldType.int), [])
theorem mo_X3_spends : mOk M_X3_spends := Or.inr ⟨rfl, (lkA q1983)⟩
theorem mp_X3_spends : mPl M_X3_spends 1 := ⟨⟨by decide +kernel, by decide +kernel⟩, by decide +kernel, by decide +kernel⟩
theorem my_X3_spends : plainName (mN M_X3_spends).cls = true := by decide +kernel
abbrev M_X3_steps : Mt := (yX3_steps, cX3_steps, 1, (Option.some Jvm.ClassFile.FieldType.int), [])
theorem mo_X3_steps : mOk M_X3_steps := Or.inr ⟨rfl, (lkA q2022)⟩
theorem mp_X3_steps : mPl M_X3_steps 1 := ⟨⟨by decide +kernel, by decide +kernel⟩, by decide +kernel, by decide +kernel⟩
theorem my_X3_steps : plainName (mN M_X3_steps).cls = true := by decide +kernel
abbrev M_X3_take : Mt := (yX3_take, cX3_take, 4, (Option.some Jvm.ClassFile.FieldType.int), [])
theorem mo_X3_take : mOk M_X3_take := Or.inr ⟨rfl, (lkA q1987)⟩
theorem mp_X3_take : mPl M_X3_take 3 := ⟨⟨by decide +kernel, by decide +kernel⟩, by decide +kernel, by decide +kernel⟩
theorem my_X3_take : plainName (mN M_X3_take).cls = true := by decide +kernel
abbrev M_X3_takes : Mt := (yX3_takes, cX3_takes, 6, (Option.some Jvm.ClassFile.FieldType.int), [])
theorem mo_X3_takes : mOk M_X3_takes := Or.inr ⟨rfl, (lkA q1991)⟩
theorem mp_X3_takes : mPl M_X3_takes 3 := ⟨⟨by decide +kernel, by decide +kernel⟩, by decide +kernel, by decide +kernel⟩
theorem my_X3_takes : plainName (mN M_X3_takes).cls = true := by decide +kernel
abbrev M_X3_takesBack : Mt := (yX3_takesBack, cX3_takesBack, 8, (Option.some Jvm.ClassFile.FieldType.int), [])
theorem mo_X3_takesBack : mOk M_X3_takesBack := Or.inr ⟨rfl, (lkA q2106)⟩
theorem mp_X3_takesBack : mPl M_X3_takesBack 1 := ⟨⟨by decide +kernel, by decide +kernel⟩, by decide +kernel, by decide +kernel⟩
theorem my_X3_takesBack : plainName (mN M_X3_takesBack).cls = true := by decide +kernel
abbrev M_X3_tell : Mt := (yX3_tell, cX3_tell, 2, (Option.some Jvm.ClassFile.FieldType.int), [])
theorem mo_X3_tell : mOk M_X3_tell := Or.inr ⟨rfl, (lkA q2168)⟩
theorem mp_X3_tell : mPl M_X3_tell 1 := ⟨⟨by decide +kernel, by decide +kernel⟩, by decide +kernel, by decide +kernel⟩
theorem my_X3_tell : plainName (mN M_X3_tell).cls = true := by decide +kernel
abbrev M_X3_tellStreet : Mt := (yX3_tellStreet, cX3_tellStreet, 2, (Option.some Jvm.ClassFile.FieldType.int), [])
theorem mo_X3_tellStreet : mOk M_X3_tellStreet := Or.inr ⟨rfl, (lkA q2185)⟩
theorem mp_X3_tellStreet : mPl M_X3_tellStreet 0 := ⟨⟨by decide +kernel, by decide +kernel⟩, by decide +kernel, by decide +kernel⟩
theorem my_X3_tellStreet : plainName (mN M_X3_tellStreet).cls = true := by decide +kernel
abbrev M_X3_temper : Mt := (yX3_temper, cX3_temper, 2, (Option.some Jvm.ClassFile.FieldType.int), [])
theorem mo_X3_temper : mOk M_X3_temper := Or.inr ⟨rfl, (lkA q2026)⟩
theorem mp_X3_temper : mPl M_X3_temper 1 := ⟨⟨by decide +kernel, by decide +kernel⟩, by decide +kernel, by decide +kernel⟩
theorem my_X3_temper : plainName (mN M_X3_temper).cls = true := by decide +kernel
abbrev M_X3_tries : Mt := (yX3_tries, cX3_tries, 2, (Option.none : Option Jvm.ClassFile.FieldType), [])
theorem mo_X3_tries : mOk M_X3_tries := Or.inr ⟨rfl, (lkA q1946)⟩
theorem mp_X3_tries : mPl M_X3_tries 0 := ⟨⟨by decide +kernel, by decide +kernel⟩, by decide +kernel, by decide +kernel⟩
theorem my_X3_tries : plainName (mN M_X3_tries).cls = true := by decide +kernel
abbrev M_X3_undo : Mt := (yX3_undo, cX3_undo, 2, (Option.some Jvm.ClassFile.FieldType.int), [])
theorem mo_X3_undo : mOk M_X3_undo := Or.inr ⟨rfl, (lkA q2224)⟩
theorem mp_X3_undo : mPl M_X3_undo 0 := ⟨⟨by decide +kernel, by decide +kernel⟩, by decide +kernel, by decide +kernel⟩
theorem my_X3_undo : plainName (mN M_X3_undo).cls = true := by decide +kernel
abbrev M_X3_wants : Mt := (yX3_wants, cX3_wants, 6, (Option.some Jvm.ClassFile.FieldType.int), [])
theorem mo_X3_wants : mOk M_X3_wants := Or.inr ⟨rfl, (lkA q2077)⟩
theorem mp_X3_wants : mPl M_X3_wants 4 := ⟨⟨by decide +kernel, by decide +kernel⟩, by decide +kernel, by decide +kernel⟩
theorem my_X3_wants : plainName (mN M_X3_wants).cls = true := by decide +kernel
abbrev M_X3_word : Mt := (yX3_word, cX3_word, 3, (Option.some Jvm.ClassFile.FieldType.boolean), [])
theorem mo_X3_word : mOk M_X3_word := Or.inr ⟨rfl, (lkA q2135)⟩
theorem mp_X3_word : mPl M_X3_word 1 := ⟨⟨by decide +kernel, by decide +kernel⟩, by decide +kernel, by decide +kernel⟩
theorem my_X3_word : plainName (mN M_X3_word).cls = true := by decide +kernel
abbrev M_X3_would : Mt := (yX3_would, cX3_would, 5, (Option.some Jvm.ClassFile.FieldType.int), [])
theorem mo_X3_would : mOk M_X3_would := Or.inr ⟨rfl, (lkA q2073)⟩
theorem mp_X3_would : mPl M_X3_would 4 := ⟨⟨by decide +kernel, by decide +kernel⟩, by decide +kernel, by decide +kernel⟩
theorem my_X3_would : plainName (mN M_X3_would).cls = true := by decide +kernel
abbrev M_X3_writes : Mt := (yX3_writes, cX3_writes, 3, (Option.none : Option Jvm.ClassFile.FieldType), [])
theorem mo_X3_writes : mOk M_X3_writes := Or.inr ⟨rfl, (lkA q2173)⟩
theorem mp_X3_writes : mPl M_X3_writes 1 := ⟨⟨by decide +kernel, by decide +kernel⟩, by decide +kernel, by decide +kernel⟩
theorem my_X3_writes : plainName (mN M_X3_writes).cls = true := by decide +kernel
abbrev M_X3_writesNumber : Mt := (yX3_writesNumber, cX3_writesNumber, 2, (Option.none : Option Jvm.ClassFile.FieldType), [])
theorem mo_X3_writesNumber : mOk M_X3_writesNumber := Or.inr ⟨rfl, (lkA q2177)⟩
theorem mp_X3_writesNumber : mPl M_X3_writesNumber 1 := ⟨⟨by decide +kernel, by decide +kernel⟩, by decide +kernel, by decide +kernel⟩
theorem my_X3_writesNumber : plainName (mN M_X3_writesNumber).cls = true := by decide +kernel
abbrev M_X4_all : Mt := (yX4_all, cX4_all, 1, (Option.some Jvm.ClassFile.FieldType.int), [])
theorem mo_X4_all : mOk M_X4_all := Or.inr ⟨rfl, (lkA q1815)⟩
theorem mp_X4_all : mPl M_X4_all 0 := ⟨⟨by decide +kernel, by decide +kernel⟩, by decide +kernel, by decide +kernel⟩
theorem my_X4_all : plainName (mN M_X4_all).cls = true := by decide +kernel
abbrev M_X4_checkSoles : Mt := (yX4_checkSoles, cX4_checkSoles, 2, (Option.none : Option Jvm.ClassFile.FieldType), [])
theorem mo_X4_checkSoles : mOk M_X4_checkSoles := Or.inr ⟨rfl, (lkA q1272)⟩
theorem mp_X4_checkSoles : mPl M_X4_checkSoles 1 := ⟨⟨by decide +kernel, by decide +kernel⟩, by decide +kernel, by decide +kernel⟩
theorem my_X4_checkSoles : plainName (mN M_X4_checkSoles).cls = true := by decide +kernel
abbrev M_X4_copy : Mt := (yX4_copy, cX4_copy, 2, (Option.some (Jvm.ClassFile.FieldType.object "BrushSellers$Seller")), [])
theorem mo_X4_copy : mOk M_X4_copy := Or.inr ⟨rfl, (lkA q866)⟩
theorem mp_X4_copy : mPl M_X4_copy 0 := ⟨⟨by decide +kernel, by decide +kernel⟩, by decide +kernel, by decide +kernel⟩
theorem my_X4_copy : plainName (mN M_X4_copy).cls = true := by decide +kernel
abbrev M_X4_goesTo : Mt := (yX4_goesTo, cX4_goesTo, 3, (Option.none : Option Jvm.ClassFile.FieldType), [])
theorem mo_X4_goesTo : mOk M_X4_goesTo := Or.inr ⟨rfl, (lkA q1281)⟩
theorem mp_X4_goesTo : mPl M_X4_goesTo 1 := ⟨⟨by decide +kernel, by decide +kernel⟩, by decide +kernel, by decide +kernel⟩
theorem my_X4_goesTo : plainName (mN M_X4_goesTo).cls = true := by decide +kernel
abbrev M_X4_house : Mt := (yX4_house, cX4_house, 1, (Option.some Jvm.ClassFile.FieldType.int), [])
theorem mo_X4_house : mOk M_X4_house := Or.inr ⟨rfl, (lkA q1196)⟩
theorem mp_X4_house : mPl M_X4_house 0 := ⟨⟨by decide +kernel, by decide +kernel⟩, by decide +kernel, by decide +kernel⟩
theorem my_X4_house : plainName (mN M_X4_house).cls = true := by decide +kernel
abbrev M_X4_init : Mt := (yX4_init, cX4_init, 2, (Option.none : Option Jvm.ClassFile.FieldType), [])
theorem mo_X4_init : mOk M_X4_init := Or.inr ⟨rfl, (lkA q871)⟩
theorem mp_X4_init : mPl M_X4_init 1 := ⟨⟨by decide +kernel, by decide +kernel⟩, by decide +kernel, by decide +kernel⟩
theorem my_X4_init : plainName (mN M_X4_init).cls = true := by decide +kernel
abbrev M_X4_room : Mt := (yX4_room, cX4_room, 2, (Option.some Jvm.ClassFile.FieldType.int), [])
theorem mo_X4_room : mOk M_X4_room := Or.inr ⟨rfl, (lkA q1203)⟩
theorem mp_X4_room : mPl M_X4_room 1 := ⟨⟨by decide +kernel, by decide +kernel⟩, by decide +kernel, by decide +kernel⟩
theorem my_X4_room : plainName (mN M_X4_room).cls = true := by decide +kernel
abbrev M_X4_rounds : Mt := (yX4_rounds, cX4_rounds, 4, (Option.some Jvm.ClassFile.FieldType.int), [])
theorem mo_X4_rounds : mOk M_X4_rounds := Or.inr ⟨rfl, (lkA q1310)⟩
theorem mp_X4_rounds : mPl M_X4_rounds 1 := ⟨⟨by decide +kernel, by decide +kernel⟩, by decide +kernel, by decide +kernel⟩
theorem my_X4_rounds : plainName (mN M_X4_rounds).cls = true := by decide +kernel
abbrev M_X4_roundsAgain : Mt := (yX4_roundsAgain, cX4_roundsAgain, 2, (Option.some Jvm.ClassFile.FieldType.int), [])
theorem mo_X4_roundsAgain : mOk M_X4_roundsAgain := Or.inr ⟨rfl, (lkA q1318)⟩
theorem mp_X4_roundsAgain : mPl M_X4_roundsAgain 1 := ⟨⟨by decide +kernel, by decide +kernel⟩, by decide +kernel, by decide +kernel⟩
theorem my_X4_roundsAgain : plainName (mN M_X4_roundsAgain).cls = true := by decide +kernel
abbrev M_X4_text : Mt := (yX4_text, cX4_text, 1, (Option.some (Jvm.ClassFile.FieldType.object "java/lang/String")), [])
theorem mo_X4_text : mOk M_X4_text := Or.inr ⟨rfl, (lkA q1728)⟩
theorem mp_X4_text : mPl M_X4_text 0 := ⟨⟨by decide +kernel, by decide +kernel⟩, by decide +kernel, by decide +kernel⟩
theorem my_X4_text : plainName (mN M_X4_text).cls = true := by decide +kernel
abbrev M_X4_value : Mt := (yX4_value, cX4_value, 2, (Option.some Jvm.ClassFile.FieldType.int), [])
theorem mo_X4_value : mOk M_X4_value := Or.inr ⟨rfl, (lkA q1216)⟩
theorem mp_X4_value : mPl M_X4_value 1 := ⟨⟨by decide +kernel, by decide +kernel⟩, by decide +kernel, by decide +kernel⟩
theorem my_X4_value : plainName (mN M_X4_value).cls = true := by decide +kernel
abbrev M_X5_coins : Mt := (yX5_coins, cX5_coins, 1, (Option.some Jvm.ClassFile.FieldType.int), [])
theorem mo_X5_coins : mOk M_X5_coins := Or.inr ⟨rfl, (lkA q1389)⟩
theorem mp_X5_coins : mPl M_X5_coins 0 := ⟨⟨by decide +kernel, by decide +kernel⟩, by decide +kernel, by decide +kernel⟩
theorem my_X5_coins : plainName (mN M_X5_coins).cls = true := by decide +kernel
abbrev M_X5_copy : Mt := (yX5_copy, cX5_copy, 2, (Option.some (Jvm.ClassFile.FieldType.object "BrushSellers$Sale")), [])
theorem mo_X5_copy : mOk M_X5_copy := Or.inr ⟨rfl, (lkA q977)⟩
theorem mp_X5_copy : mPl M_X5_copy 0 := ⟨⟨by decide +kernel, by decide +kernel⟩, by decide +kernel, by decide +kernel⟩
theorem my_X5_copy : plainName (mN M_X5_copy).cls = true := by decide +kernel
abbrev M_X5_init : Mt := (yX5_init, cX5_init, 7, (Option.none : Option Jvm.ClassFile.FieldType), [])
theorem mo_X5_init : mOk M_X5_init := Or.inr ⟨rfl, (lkA q982)⟩
theorem mp_X5_init : mPl M_X5_init 6 := ⟨⟨by decide +kernel, by decide +kernel⟩, by decide +kernel, by decide +kernel⟩
theorem my_X5_init : plainName (mN M_X5_init).cls = true := by decide +kernel
abbrev M_X5_value : Mt := (yX5_value, cX5_value, 2, (Option.some Jvm.ClassFile.FieldType.int), [])
theorem mo_X5_value : mOk M_X5_value := Or.inr ⟨rfl, (lkA q1412)⟩
theorem mp_X5_value : mPl M_X5_value 1 := ⟨⟨by decide +kernel, by decide +kernel⟩, by decide +kernel, by decide +kernel⟩
theorem my_X5_value : plainName (mN M_X5_value).cls = true := by decide +kernel
abbrev M_X6_init : Mt := (yX6_init, cX6_init, 3, (Option.none : Option Jvm.ClassFile.FieldType), [])
theorem mo_X6_init : mOk M_X6_init := Or.inr ⟨rfl, (lkA q1064)⟩
theorem mp_X6_init : mPl M_X6_init 2 := ⟨⟨by decide +kernel, by decide +kernel⟩, by decide +kernel, by decide +kernel⟩
theorem my_X6_init : plainName (mN M_X6_init).cls = true := by decide +kernel
abbrev M_X7_far : Mt := (yX7_far, cX7_far, 2, (Option.some Jvm.ClassFile.FieldType.int), [])
theorem mo_X7_far : mOk M_X7_far := Or.inr ⟨rfl, (lkA q1265)⟩
theorem mp_X7_far : mPl M_X7_far 2 := ⟨⟨by decide +kernel, by decide +kernel⟩, by decide +kernel, by decide +kernel⟩
theorem my_X7_far : plainName (mN M_X7_far).cls = true := by decide +kernel
abbrev M_X7_houses : Mt := (yX7_houses, cX7_houses, 2, (Option.some Jvm.ClassFile.FieldType.int), [])
theorem mo_X7_houses : mOk M_X7_houses := Or.inr ⟨rfl, (lkA q1262)⟩
theorem mp_X7_houses : mPl M_X7_houses 1 := ⟨⟨by decide +kernel, by decide +kernel⟩, by decide +kernel, by decide +kernel⟩
theorem my_X7_houses : plainName (mN M_X7_houses).cls = true := by decide +kernel
abbrev M_X7_isAt : Mt := (yX7_isAt, cX7_isAt, 2, (Option.some Jvm.ClassFile.FieldType.boolean), [])
theorem mo_X7_isAt : mOk M_X7_isAt := Or.inr ⟨rfl, (lkA q1180)⟩
theorem mp_X7_isAt : mPl M_X7_isAt 1 := ⟨⟨by decide +kernel, by decide +kernel⟩, by decide +kernel, by decide +kernel⟩
theorem my_X7_isAt : plainName (mN M_X7_isAt).cls = true := by decide +kernel
abbrev M_X8_behind : Mt := (yX8_behind, cX8_behind, 3, (Option.some Jvm.ClassFile.FieldType.int), [])
theorem mo_X8_behind : mOk M_X8_behind := Or.inr ⟨rfl, (lkA q1658)⟩
theorem mp_X8_behind : mPl M_X8_behind 2 := ⟨⟨by decide +kernel, by decide +kernel⟩, by decide +kernel, by decide +kernel⟩
theorem my_X8_behind : plainName (mN M_X8_behind).cls = true := by decide +kernel
abbrev M_X8_brushes : Mt := (yX8_brushes, cX8_brushes, 2, (Option.some Jvm.ClassFile.FieldType.int), [])
theorem mo_X8_brushes : mOk M_X8_brushes := Or.inr ⟨rfl, (lkA q1662)⟩
theorem mp_X8_brushes : mPl M_X8_brushes 0 := ⟨⟨by decide +kernel, by decide +kernel⟩, by decide +kernel, by decide +kernel⟩
theorem my_X8_brushes : plainName (mN M_X8_brushes).cls = true := by decide +kernel
abbrev M_X8_here : Mt := (yX8_here, cX8_here, 1, (Option.some Jvm.ClassFile.FieldType.int), [])
theorem mo_X8_here : mOk M_X8_here := Or.inr ⟨rfl, (lkA q1499)⟩
theorem mp_X8_here : mPl M_X8_here 0 := ⟨⟨by decide +kernel, by decide +kernel⟩, by decide +kernel, by decide +kernel⟩
theorem my_X8_here : plainName (mN M_X8_here).cls = true := by decide +kernel
abbrev M_X8_init : Mt := (yX8_init, cX8_init, 2, (Option.none : Option Jvm.ClassFile.FieldType), [])
theorem mo_X8_init : mOk M_X8_init := Or.inr ⟨rfl, (lkA q1459)⟩
theorem mp_X8_init : mPl M_X8_init 1 := ⟨⟨by decide +kernel, by decide +kernel⟩, by decide +kernel, by decide +kernel⟩
theorem my_X8_init : plainName (mN M_X8_init).cls = true := by decide +kernel
abbrev M_X8_needs : Mt := (yX8_needs, cX8_needs, 2, (Option.none : Option Jvm.ClassFile.FieldType), [])
theorem mo_X8_needs : mOk M_X8_needs := Or.inr ⟨rfl, (lkA q1552)⟩
theorem mp_X8_needs : mPl M_X8_needs 1 := ⟨⟨by decide +kernel, by decide +kernel⟩, by decide +kernel, by decide +kernel⟩
theorem my_X8_needs : plainName (mN M_X8_needs).cls = true := by decide +kernel
abbrev M_X8_number : Mt := (yX8_number, cX8_number, 4, (Option.some Jvm.ClassFile.FieldType.int), [])
theorem mo_X8_number : mOk M_X8_number := Or.inr ⟨rfl, (lkA q1653)⟩
theorem mp_X8_number : mPl M_X8_number 1 := ⟨⟨by decide +kernel, by decide +kernel⟩, by decide +kernel, by decide +kernel⟩
theorem my_X8_number : plainName (mN M_X8_number).cls = true := by decide +kernel
abbrev M_X8_order : Mt := (yX8_order, cX8_order, 4, (Option.some (Jvm.ClassFile.FieldType.object "BrushSellers$Order")), [])
theorem mo_X8_order : mOk M_X8_order := Or.inr ⟨rfl, (lkA q1489)⟩
theorem mp_X8_order : mPl M_X8_order 0 := ⟨⟨by decide +kernel, by decide +kernel⟩, by decide +kernel, by decide +kernel⟩
theorem my_X8_order : plainName (mN M_X8_order).cls = true := by decide +kernel
abbrev M_X8_orders : Mt := (yX8_orders, cX8_orders, 2, (Option.some (Jvm.ClassFile.FieldType.object "java/util/LinkedList")), [])
theorem mo_X8_orders : mOk M_X8_orders := Or.inr ⟨rfl, (lkA q1483)⟩
theorem mp_X8_orders : mPl M_X8_orders 0 := ⟨⟨by decide +kernel, by decide +kernel⟩, by decide +kernel, by decide +kernel⟩
theorem my_X8_orders : plainName (mN M_X8_orders).cls = true := by decide +kernel
abbrev M_X8_takes : Mt := (yX8_takes, cX8_takes, 3, (Option.some Jvm.ClassFile.FieldType.boolean), [])
theorem mo_X8_takes : mOk M_X8_takes := Or.inr ⟨rfl, (lkA q1548)⟩
theorem mp_X8_takes : mPl M_X8_takes 1 := ⟨⟨by decide +kernel, by decide +kernel⟩, by decide +kernel, by decide +kernel⟩
theorem my_X8_takes : plainName (mN M_X8_takes).cls = true := by decide +kernel
abbrev M_X8_word : Mt := (yX8_word, cX8_word, 6, (Option.some (Jvm.ClassFile.FieldType.object "java/lang/String")), [])
theorem mo_X8_word : mOk M_X8_word := Or.inr ⟨rfl, (lkA q1495)⟩
theorem mp_X8_word : mPl M_X8_word 0 := ⟨⟨by decide +kernel, by decide +kernel⟩, by decide +kernel, by decide +kernel⟩
theorem my_X8_word : plainName (mN M_X8_word).cls = true := by decide +kernel
abbrev M_X9_does : Mt := (yX9_does, cX9_does, 5, (Option.some Jvm.ClassFile.FieldType.int), [])
theorem mo_X9_does : mOk M_X9_does := Or.inr ⟨rfl, (lkA q1678)⟩
theorem mp_X9_does : mPl M_X9_does 1 := ⟨⟨by decide +kernel, by decide +kernel⟩, by decide +kernel, by decide +kernel⟩
theorem my_X9_does : plainName (mN M_X9_does).cls = true := by decide +kernel
abbrev M_X9_init : Mt := (yX9_init, cX9_init, 2, (Option.none : Option Jvm.ClassFile.FieldType), [])
theorem mo_X9_init : mOk M_X9_init := Or.inr ⟨rfl, (lkA q1574)⟩
theorem mp_X9_init : mPl M_X9_init 1 := ⟨⟨by decide +kernel, by decide +kernel⟩, by decide +kernel, by decide +kernel⟩
theorem my_X9_init : plainName (mN M_X9_init).cls = true := by decide +kernel
abbrev M_X9_isDone : Mt := (yX9_isDone, cX9_isDone, 3, (Option.some Jvm.ClassFile.FieldType.boolean), [((0 : Nat), (13 : Nat), (14 : Nat), (96 : Nat))])
theorem mo_X9_isDone : mOk M_X9_isDone := Or.inl (lkA q1673)
theorem mp_X9_isDone : mPl M_X9_isDone 1 := ⟨⟨by decide +kernel, by decide +kernel⟩, by decide +kernel, by decide +kernel⟩
theorem my_X9_isDone : plainName (mN M_X9_isDone).cls = true := by decide +kernel
