/-! the words that throwing stands on (printed by tools/gen_xc.py) -/
set_option maxRecDepth 100000
def xc_L : List Cond := [(Jvm.Cond.methodLink "jdk/internal/util/ArraysSupport" (105 : Nat) ({ cls := "java/lang/IllegalArgumentException", name := "<init>", desc := "(Ljava/lang/String;)V" } : Jvm.MethodName)),
  (Jvm.Cond.methodLink "java/util/Arrays" (65 : Nat) ({ cls := "java/lang/IllegalArgumentException", name := "<init>", desc := "(Ljava/lang/String;)V" } : Jvm.MethodName)),
  (Jvm.Cond.initialized "java/lang/Throwable"),
  (Jvm.Cond.declares ({ cls := "java/lang/Throwable", name := "<init>", desc := "()V" } : Jvm.MethodName)),
  (Jvm.Cond.declares ({ cls := "java/lang/Throwable", name := "<init>", desc := "(Ljava/lang/String;)V" } : Jvm.MethodName)),
  (Jvm.Cond.lays "java/lang/Throwable" "java/lang/Throwable" "cause" "Ljava/lang/Throwable;"),
  (Jvm.Cond.lays "java/lang/Throwable" "java/lang/Throwable" "stackTrace" "[Ljava/lang/StackTraceElement;"),
  (Jvm.Cond.lays "java/lang/Throwable" "java/lang/Throwable" "suppressedExceptions" "Ljava/util/List;"),
  (Jvm.Cond.lays "java/lang/Throwable" "java/lang/Throwable" "detailMessage" "Ljava/lang/String;"),
  (Jvm.Cond.lays "java/lang/Throwable" "java/lang/Throwable" "backtrace" "Ljava/lang/Object;"),
  (Jvm.Cond.fieldLink "java/lang/Throwable" (198 : Nat) "java/lang/Throwable" "backtrace" "Ljava/lang/Object;"),
  (Jvm.Cond.superclass "java/lang/Throwable" "java/lang/Object"),
  (Jvm.Cond.instanceMethod ({ cls := "java/lang/Throwable", name := "<init>", desc := "()V" } : Jvm.MethodName)),
  (Jvm.Cond.code ({ cls := "java/lang/Throwable", name := "<init>", desc := "()V" } : Jvm.MethodName) prog_92_method_1_code (1 : Nat) (Option.none : Option Jvm.ClassFile.FieldType)),
  (Jvm.Cond.methodLink "java/lang/Throwable" (1 : Nat) ({ cls := "java/lang/Object", name := "<init>", desc := "()V" } : Jvm.MethodName)),
  (Jvm.Cond.fieldLink "java/lang/Throwable" (13 : Nat) "java/lang/Throwable" "UNASSIGNED_STACK" "[Ljava/lang/StackTraceElement;"),
  (Jvm.Cond.fieldLink "java/lang/Throwable" (20 : Nat) "java/lang/Throwable" "SUPPRESSED_SENTINEL" "Ljava/util/List;"),
  (Jvm.Cond.methodLink "java/lang/Throwable" (27 : Nat) ({ cls := "java/lang/Throwable", name := "fillInStackTrace", desc := "()Ljava/lang/Throwable;" } : Jvm.MethodName)),
  (Jvm.Cond.instanceMethod ({ cls := "java/lang/Throwable", name := "fillInStackTrace", desc := "()Ljava/lang/Throwable;" } : Jvm.MethodName)),
  (Jvm.Cond.codeSync ({ cls := "java/lang/Throwable", name := "fillInStackTrace", desc := "()Ljava/lang/Throwable;" } : Jvm.MethodName) prog_92_method_18_code (1 : Nat) (Option.some (Jvm.ClassFile.FieldType.object "java/lang/Throwable"))),
  (Jvm.Cond.methodLink "java/lang/Throwable" (202 : Nat) ({ cls := "java/lang/Throwable", name := "fillInStackTrace", desc := "(I)Ljava/lang/Throwable;" } : Jvm.MethodName)),
  (Jvm.Cond.privateMethod ({ cls := "java/lang/Throwable", name := "fillInStackTrace", desc := "(I)Ljava/lang/Throwable;" } : Jvm.MethodName)),
  (Jvm.Cond.instanceMethod ({ cls := "java/lang/Throwable", name := "fillInStackTrace", desc := "(I)Ljava/lang/Throwable;" } : Jvm.MethodName)),
  (Jvm.Cond.instantiable "java/lang/Throwable" (6 : Nat)),
  (Jvm.Cond.native ({ cls := "java/lang/Throwable", name := "fillInStackTrace", desc := "(I)Ljava/lang/Throwable;" } : Jvm.MethodName)),
  (Jvm.Cond.instanceMethod ({ cls := "java/lang/Throwable", name := "<init>", desc := "(Ljava/lang/String;)V" } : Jvm.MethodName)),
  (Jvm.Cond.code ({ cls := "java/lang/Throwable", name := "<init>", desc := "(Ljava/lang/String;)V" } : Jvm.MethodName) prog_92_method_2_code (2 : Nat) (Option.none : Option Jvm.ClassFile.FieldType)),
  (Jvm.Cond.fieldLink "java/lang/Throwable" (198 : Nat) "java/lang/Throwable" "backtrace" "Ljava/lang/Object;"),
  (Jvm.Cond.fieldLink "java/lang/Throwable" (31 : Nat) "java/lang/Throwable" "detailMessage" "Ljava/lang/String;"),
  (Jvm.Cond.fieldLink "java/lang/Throwable" (7 : Nat) "java/lang/Throwable" "cause" "Ljava/lang/Throwable;"),
  (Jvm.Cond.fieldLink "java/lang/Throwable" (17 : Nat) "java/lang/Throwable" "stackTrace" "[Ljava/lang/StackTraceElement;"),
  (Jvm.Cond.fieldLink "java/lang/Throwable" (24 : Nat) "java/lang/Throwable" "suppressedExceptions" "Ljava/util/List;"),
  (Jvm.Cond.soleField "java/lang/Throwable" "backtrace"),
  (Jvm.Cond.soleField "java/lang/Throwable" "detailMessage"),
  (Jvm.Cond.soleField "java/lang/Throwable" "cause"),
  (Jvm.Cond.soleField "java/lang/Throwable" "stackTrace"),
  (Jvm.Cond.soleField "java/lang/Throwable" "depth"),
  (Jvm.Cond.soleField "java/lang/Throwable" "suppressedExceptions"),
  (Jvm.Cond.initialized "java/lang/Exception"),
  (Jvm.Cond.declares ({ cls := "java/lang/Exception", name := "<init>", desc := "()V" } : Jvm.MethodName)),
  (Jvm.Cond.declares ({ cls := "java/lang/Exception", name := "<init>", desc := "(Ljava/lang/String;)V" } : Jvm.MethodName)),
  (Jvm.Cond.instanceMethod ({ cls := "java/lang/Exception", name := "<init>", desc := "(Ljava/lang/String;)V" } : Jvm.MethodName)),
  (Jvm.Cond.code ({ cls := "java/lang/Exception", name := "<init>", desc := "(Ljava/lang/String;)V" } : Jvm.MethodName) prog_74_method_2_code (2 : Nat) (Option.none : Option Jvm.ClassFile.FieldType)),
  (Jvm.Cond.methodLink "java/lang/Exception" (7 : Nat) ({ cls := "java/lang/Throwable", name := "<init>", desc := "(Ljava/lang/String;)V" } : Jvm.MethodName)),
  (Jvm.Cond.instanceMethod ({ cls := "java/lang/Exception", name := "<init>", desc := "()V" } : Jvm.MethodName)),
  (Jvm.Cond.code ({ cls := "java/lang/Exception", name := "<init>", desc := "()V" } : Jvm.MethodName) prog_74_method_1_code (1 : Nat) (Option.none : Option Jvm.ClassFile.FieldType)),
  (Jvm.Cond.methodLink "java/lang/Exception" (1 : Nat) ({ cls := "java/lang/Throwable", name := "<init>", desc := "()V" } : Jvm.MethodName)),
  (Jvm.Cond.initialized "java/lang/RuntimeException"),
  (Jvm.Cond.declares ({ cls := "java/lang/RuntimeException", name := "<init>", desc := "()V" } : Jvm.MethodName)),
  (Jvm.Cond.declares ({ cls := "java/lang/RuntimeException", name := "<init>", desc := "(Ljava/lang/String;)V" } : Jvm.MethodName)),
  (Jvm.Cond.instanceMethod ({ cls := "java/lang/RuntimeException", name := "<init>", desc := "(Ljava/lang/String;)V" } : Jvm.MethodName)),
  (Jvm.Cond.code ({ cls := "java/lang/RuntimeException", name := "<init>", desc := "(Ljava/lang/String;)V" } : Jvm.MethodName) prog_85_method_2_code (2 : Nat) (Option.none : Option Jvm.ClassFile.FieldType)),
  (Jvm.Cond.methodLink "java/lang/RuntimeException" (7 : Nat) ({ cls := "java/lang/Exception", name := "<init>", desc := "(Ljava/lang/String;)V" } : Jvm.MethodName)),
  (Jvm.Cond.instanceMethod ({ cls := "java/lang/RuntimeException", name := "<init>", desc := "()V" } : Jvm.MethodName)),
  (Jvm.Cond.code ({ cls := "java/lang/RuntimeException", name := "<init>", desc := "()V" } : Jvm.MethodName) prog_85_method_1_code (1 : Nat) (Option.none : Option Jvm.ClassFile.FieldType)),
  (Jvm.Cond.methodLink "java/lang/RuntimeException" (1 : Nat) ({ cls := "java/lang/Exception", name := "<init>", desc := "()V" } : Jvm.MethodName)),
  (Jvm.Cond.initialized "java/lang/IllegalStateException"),
  (Jvm.Cond.selects "java/lang/IllegalStateException" ({ cls := "java/lang/Throwable", name := "fillInStackTrace", desc := "()Ljava/lang/Throwable;" } : Jvm.MethodName) ({ cls := "java/lang/Throwable", name := "fillInStackTrace", desc := "()Ljava/lang/Throwable;" } : Jvm.MethodName)),
  (Jvm.Cond.instantiable "java/lang/IllegalStateException" (6 : Nat)),
  (Jvm.Cond.castable "java/lang/IllegalStateException" "java/lang/IllegalStateException"),
  (Jvm.Cond.selects "java/lang/IllegalStateException" ({ cls := "java/lang/Throwable", name := "fillInStackTrace", desc := "(I)Ljava/lang/Throwable;" } : Jvm.MethodName) ({ cls := "java/lang/Throwable", name := "fillInStackTrace", desc := "(I)Ljava/lang/Throwable;" } : Jvm.MethodName)),
  (Jvm.Cond.lays "java/lang/IllegalStateException" "java/lang/Throwable" "cause" "Ljava/lang/Throwable;"),
  (Jvm.Cond.lays "java/lang/IllegalStateException" "java/lang/Throwable" "stackTrace" "[Ljava/lang/StackTraceElement;"),
  (Jvm.Cond.lays "java/lang/IllegalStateException" "java/lang/Throwable" "suppressedExceptions" "Ljava/util/List;"),
  (Jvm.Cond.lays "java/lang/IllegalStateException" "java/lang/Throwable" "detailMessage" "Ljava/lang/String;"),
  (Jvm.Cond.lays "java/lang/IllegalStateException" "java/lang/Throwable" "backtrace" "Ljava/lang/Object;"),
  (Jvm.Cond.instanceMethod ({ cls := "java/lang/IllegalStateException", name := "<init>", desc := "(Ljava/lang/String;)V" } : Jvm.MethodName)),
  (Jvm.Cond.code ({ cls := "java/lang/IllegalStateException", name := "<init>", desc := "(Ljava/lang/String;)V" } : Jvm.MethodName) prog_76_method_2_code (2 : Nat) (Option.none : Option Jvm.ClassFile.FieldType)),
  (Jvm.Cond.methodLink "java/lang/IllegalStateException" (7 : Nat) ({ cls := "java/lang/RuntimeException", name := "<init>", desc := "(Ljava/lang/String;)V" } : Jvm.MethodName)),
  (Jvm.Cond.lays "java/lang/IllegalStateException" "java/lang/Throwable" "depth" "I"),
  (Jvm.Cond.instanceMethod ({ cls := "java/lang/IllegalStateException", name := "<init>", desc := "()V" } : Jvm.MethodName)),
  (Jvm.Cond.code ({ cls := "java/lang/IllegalStateException", name := "<init>", desc := "()V" } : Jvm.MethodName) prog_76_method_1_code (1 : Nat) (Option.none : Option Jvm.ClassFile.FieldType)),
  (Jvm.Cond.methodLink "java/lang/IllegalStateException" (1 : Nat) ({ cls := "java/lang/RuntimeException", name := "<init>", desc := "()V" } : Jvm.MethodName)),
  (Jvm.Cond.initialized "java/lang/IllegalArgumentException"),
  (Jvm.Cond.instantiable "java/lang/IllegalArgumentException" (6 : Nat)),
  (Jvm.Cond.castable "java/lang/IllegalArgumentException" "java/lang/IllegalArgumentException"),
  (Jvm.Cond.selects "java/lang/IllegalArgumentException" ({ cls := "java/lang/Throwable", name := "fillInStackTrace", desc := "(I)Ljava/lang/Throwable;" } : Jvm.MethodName) ({ cls := "java/lang/Throwable", name := "fillInStackTrace", desc := "(I)Ljava/lang/Throwable;" } : Jvm.MethodName)),
  (Jvm.Cond.selects "java/lang/IllegalArgumentException" ({ cls := "java/lang/Throwable", name := "fillInStackTrace", desc := "()Ljava/lang/Throwable;" } : Jvm.MethodName) ({ cls := "java/lang/Throwable", name := "fillInStackTrace", desc := "()Ljava/lang/Throwable;" } : Jvm.MethodName)),
  (Jvm.Cond.lays "java/lang/IllegalArgumentException" "java/lang/Throwable" "cause" "Ljava/lang/Throwable;"),
  (Jvm.Cond.lays "java/lang/IllegalArgumentException" "java/lang/Throwable" "stackTrace" "[Ljava/lang/StackTraceElement;"),
  (Jvm.Cond.lays "java/lang/IllegalArgumentException" "java/lang/Throwable" "suppressedExceptions" "Ljava/util/List;"),
  (Jvm.Cond.lays "java/lang/IllegalArgumentException" "java/lang/Throwable" "detailMessage" "Ljava/lang/String;"),
  (Jvm.Cond.lays "java/lang/IllegalArgumentException" "java/lang/Throwable" "backtrace" "Ljava/lang/Object;"),
  (Jvm.Cond.instanceMethod ({ cls := "java/lang/IllegalArgumentException", name := "<init>", desc := "(Ljava/lang/String;)V" } : Jvm.MethodName)),
  (Jvm.Cond.code ({ cls := "java/lang/IllegalArgumentException", name := "<init>", desc := "(Ljava/lang/String;)V" } : Jvm.MethodName) prog_75_method_2_code (2 : Nat) (Option.none : Option Jvm.ClassFile.FieldType)),
  (Jvm.Cond.methodLink "java/lang/IllegalArgumentException" (7 : Nat) ({ cls := "java/lang/RuntimeException", name := "<init>", desc := "(Ljava/lang/String;)V" } : Jvm.MethodName)),
  (Jvm.Cond.lays "java/lang/IllegalArgumentException" "java/lang/Throwable" "depth" "I"),
  (Jvm.Cond.lays "java/lang/StringBuilder" "java/lang/AbstractStringBuilder" "value" "[B"),
  (Jvm.Cond.initialized "java/lang/String"),
  (Jvm.Cond.instantiable "java/lang/String" (4 : Nat)),
  (Jvm.Cond.instanceMethod ({ cls := "java/lang/String", name := "<init>", desc := "(Ljava/lang/StringBuilder;)V" } : Jvm.MethodName)),
  (Jvm.Cond.code ({ cls := "java/lang/String", name := "<init>", desc := "(Ljava/lang/StringBuilder;)V" } : Jvm.MethodName) prog_86_method_53_code (2 : Nat) (Option.none : Option Jvm.ClassFile.FieldType)),
  (Jvm.Cond.instanceMethod ({ cls := "java/lang/String", name := "<init>", desc := "(Ljava/lang/AbstractStringBuilder;Ljava/lang/Void;)V" } : Jvm.MethodName)),
  (Jvm.Cond.code ({ cls := "java/lang/String", name := "<init>", desc := "(Ljava/lang/AbstractStringBuilder;Ljava/lang/Void;)V" } : Jvm.MethodName) prog_86_method_150_code (5 : Nat) (Option.none : Option Jvm.ClassFile.FieldType)),
  (Jvm.Cond.instanceMethod ({ cls := "java/lang/String", name := "length", desc := "()I" } : Jvm.MethodName)),
  (Jvm.Cond.instanceMethod ({ cls := "java/lang/String", name := "coder", desc := "()B" } : Jvm.MethodName)),
  (Jvm.Cond.instanceMethod ({ cls := "java/lang/String", name := "getBytes", desc := "([BIB)V" } : Jvm.MethodName)),
  (Jvm.Cond.laysFinal "java/lang/String" "java/lang/String" "value" "[B"),
  (Jvm.Cond.soleField "java/lang/String" "value"),
  (Jvm.Cond.laysFinal "java/lang/String" "java/lang/String" "coder" "B"),
  (Jvm.Cond.soleField "java/lang/String" "coder"),
  (Jvm.Cond.lays "java/lang/String" "java/lang/String" "hash" "I"),
  (Jvm.Cond.soleField "java/lang/String" "hash"),
  (Jvm.Cond.lays "java/lang/String" "java/lang/String" "hashIsZero" "Z"),
  (Jvm.Cond.soleField "java/lang/String" "hashIsZero"),
  (Jvm.Cond.instanceMethod ({ cls := "java/lang/String", name := "equals", desc := "(Ljava/lang/Object;)Z" } : Jvm.MethodName)),
  (Jvm.Cond.instanceMethod ({ cls := "java/lang/String", name := "charAt", desc := "(I)C" } : Jvm.MethodName)),
  (Jvm.Cond.instanceMethod ({ cls := "java/lang/String", name := "isLatin1", desc := "()Z" } : Jvm.MethodName)),
  (Jvm.Cond.instanceMethod ({ cls := "java/lang/String", name := "hashCode", desc := "()I" } : Jvm.MethodName)),
  (Jvm.Cond.unhidden "java/lang/String" "compareTo" "(Ljava/lang/Object;)I"),
  (Jvm.Cond.instanceMethod ({ cls := "java/lang/String", name := "compareTo", desc := "(Ljava/lang/Object;)I" } : Jvm.MethodName)),
  (Jvm.Cond.publicMethod ({ cls := "java/lang/String", name := "compareTo", desc := "(Ljava/lang/Object;)I" } : Jvm.MethodName)),
  (Jvm.Cond.instanceMethod ({ cls := "java/lang/String", name := "compareTo", desc := "(Ljava/lang/String;)I" } : Jvm.MethodName)),
  (Jvm.Cond.instanceMethod ({ cls := "java/lang/String", name := "<init>", desc := "([BB)V" } : Jvm.MethodName)),
  (Jvm.Cond.code ({ cls := "java/lang/String", name := "<init>", desc := "([BB)V" } : Jvm.MethodName) prog_86_method_151_code (3 : Nat) (Option.none : Option Jvm.ClassFile.FieldType)),
  (Jvm.Cond.methodLink "java/util/ArrayList$Itr" (46 : Nat) ({ cls := "java/lang/IllegalStateException", name := "<init>", desc := "()V" } : Jvm.MethodName)),
  (Jvm.Cond.methodLink "java/util/ArrayList$Itr" (43 : Nat) ({ cls := "java/util/ConcurrentModificationException", name := "<init>", desc := "()V" } : Jvm.MethodName)),
  (Jvm.Cond.initialized "java/lang/IndexOutOfBoundsException"),
  (Jvm.Cond.instanceMethod ({ cls := "java/lang/IndexOutOfBoundsException", name := "<init>", desc := "(Ljava/lang/String;)V" } : Jvm.MethodName)),
  (Jvm.Cond.code ({ cls := "java/lang/IndexOutOfBoundsException", name := "<init>", desc := "(Ljava/lang/String;)V" } : Jvm.MethodName) prog_77_method_2_code (2 : Nat) (Option.none : Option Jvm.ClassFile.FieldType)),
  (Jvm.Cond.methodLink "java/lang/IndexOutOfBoundsException" (7 : Nat) ({ cls := "java/lang/RuntimeException", name := "<init>", desc := "(Ljava/lang/String;)V" } : Jvm.MethodName)),
  (Jvm.Cond.declares ({ cls := "java/lang/IndexOutOfBoundsException", name := "<init>", desc := "()V" } : Jvm.MethodName)),
  (Jvm.Cond.declares ({ cls := "java/lang/IndexOutOfBoundsException", name := "<init>", desc := "(Ljava/lang/String;)V" } : Jvm.MethodName)),
  (Jvm.Cond.initialized "java/lang/ArrayIndexOutOfBoundsException"),
  (Jvm.Cond.selects "java/lang/ArrayIndexOutOfBoundsException" ({ cls := "java/lang/Throwable", name := "fillInStackTrace", desc := "()Ljava/lang/Throwable;" } : Jvm.MethodName) ({ cls := "java/lang/Throwable", name := "fillInStackTrace", desc := "()Ljava/lang/Throwable;" } : Jvm.MethodName)),
  (Jvm.Cond.instantiable "java/lang/ArrayIndexOutOfBoundsException" (6 : Nat)),
  (Jvm.Cond.instanceMethod ({ cls := "java/lang/ArrayIndexOutOfBoundsException", name := "<init>", desc := "(Ljava/lang/String;)V" } : Jvm.MethodName)),
  (Jvm.Cond.code ({ cls := "java/lang/ArrayIndexOutOfBoundsException", name := "<init>", desc := "(Ljava/lang/String;)V" } : Jvm.MethodName) prog_69_method_2_code (2 : Nat) (Option.none : Option Jvm.ClassFile.FieldType)),
  (Jvm.Cond.methodLink "java/lang/ArrayIndexOutOfBoundsException" (7 : Nat) ({ cls := "java/lang/IndexOutOfBoundsException", name := "<init>", desc := "(Ljava/lang/String;)V" } : Jvm.MethodName)),
  (Jvm.Cond.lays "java/lang/ArrayIndexOutOfBoundsException" "java/lang/Throwable" "backtrace" "Ljava/lang/Object;"),
  (Jvm.Cond.lays "java/lang/ArrayIndexOutOfBoundsException" "java/lang/Throwable" "detailMessage" "Ljava/lang/String;"),
  (Jvm.Cond.lays "java/lang/ArrayIndexOutOfBoundsException" "java/lang/Throwable" "cause" "Ljava/lang/Throwable;"),
  (Jvm.Cond.lays "java/lang/ArrayIndexOutOfBoundsException" "java/lang/Throwable" "stackTrace" "[Ljava/lang/StackTraceElement;"),
  (Jvm.Cond.lays "java/lang/ArrayIndexOutOfBoundsException" "java/lang/Throwable" "depth" "I"),
  (Jvm.Cond.lays "java/lang/ArrayIndexOutOfBoundsException" "java/lang/Throwable" "suppressedExceptions" "Ljava/util/List;"),
  (Jvm.Cond.castable "java/lang/ArrayIndexOutOfBoundsException" "java/lang/ArrayIndexOutOfBoundsException"),
  (Jvm.Cond.selects "java/lang/ArrayIndexOutOfBoundsException" ({ cls := "java/lang/Throwable", name := "fillInStackTrace", desc := "(I)Ljava/lang/Throwable;" } : Jvm.MethodName) ({ cls := "java/lang/Throwable", name := "fillInStackTrace", desc := "(I)Ljava/lang/Throwable;" } : Jvm.MethodName)),
  (Jvm.Cond.methodLink "java/util/HashMap$HashIterator" (50 : Nat) ({ cls := "java/lang/IllegalStateException", name := "<init>", desc := "()V" } : Jvm.MethodName)),
  (Jvm.Cond.methodLink "java/util/TreeMap$PrivateEntryIterator" (44 : Nat) ({ cls := "java/lang/IllegalStateException", name := "<init>", desc := "()V" } : Jvm.MethodName)),
  (Jvm.Cond.initialized "java/util/ConcurrentModificationException"),
  (Jvm.Cond.selects "java/util/ConcurrentModificationException" ({ cls := "java/lang/Throwable", name := "fillInStackTrace", desc := "()Ljava/lang/Throwable;" } : Jvm.MethodName) ({ cls := "java/lang/Throwable", name := "fillInStackTrace", desc := "()Ljava/lang/Throwable;" } : Jvm.MethodName)),
  (Jvm.Cond.instantiable "java/util/ConcurrentModificationException" (6 : Nat)),
  (Jvm.Cond.instanceMethod ({ cls := "java/util/ConcurrentModificationException", name := "<init>", desc := "()V" } : Jvm.MethodName)),
  (Jvm.Cond.code ({ cls := "java/util/ConcurrentModificationException", name := "<init>", desc := "()V" } : Jvm.MethodName) prog_107_method_1_code (1 : Nat) (Option.none : Option Jvm.ClassFile.FieldType)),
  (Jvm.Cond.methodLink "java/util/ConcurrentModificationException" (1 : Nat) ({ cls := "java/lang/RuntimeException", name := "<init>", desc := "()V" } : Jvm.MethodName)),
  (Jvm.Cond.lays "java/util/ConcurrentModificationException" "java/lang/Throwable" "backtrace" "Ljava/lang/Object;"),
  (Jvm.Cond.lays "java/util/ConcurrentModificationException" "java/lang/Throwable" "detailMessage" "Ljava/lang/String;"),
  (Jvm.Cond.lays "java/util/ConcurrentModificationException" "java/lang/Throwable" "cause" "Ljava/lang/Throwable;"),
  (Jvm.Cond.lays "java/util/ConcurrentModificationException" "java/lang/Throwable" "stackTrace" "[Ljava/lang/StackTraceElement;"),
  (Jvm.Cond.lays "java/util/ConcurrentModificationException" "java/lang/Throwable" "depth" "I"),
  (Jvm.Cond.lays "java/util/ConcurrentModificationException" "java/lang/Throwable" "suppressedExceptions" "Ljava/util/List;"),
  (Jvm.Cond.methodLink "java/util/ArrayDeque$DeqIterator" (52 : Nat) ({ cls := "java/lang/IllegalStateException", name := "<init>", desc := "()V" } : Jvm.MethodName)),
  (Jvm.Cond.instanceMethod ({ cls := "java/lang/Object", name := "<init>", desc := "()V" } : Jvm.MethodName)),
  (Jvm.Cond.code ({ cls := "java/lang/Object", name := "<init>", desc := "()V" } : Jvm.MethodName) object_method_1_code (1 : Nat) (Option.none : Option Jvm.ClassFile.FieldType)),
  (Jvm.Cond.methodLink "java/util/ArrayDeque" (37 : Nat) ({ cls := "java/lang/IllegalStateException", name := "<init>", desc := "(Ljava/lang/String;)V" } : Jvm.MethodName)),
  (Jvm.Cond.laysFinal "WasteHouse" "WasteHouse" "tape" "[B"),
  (Jvm.Cond.laysFinal "WasteHouse" "WasteHouse" "product" "[B"),
  (Jvm.Cond.methodLink "WasteHouse" (174 : Nat) ({ cls := "java/lang/IllegalStateException", name := "<init>", desc := "(Ljava/lang/String;)V" } : Jvm.MethodName)),
  (Jvm.Cond.methodLink "WasteHouse" (184 : Nat) ({ cls := "java/lang/IllegalArgumentException", name := "<init>", desc := "(Ljava/lang/String;)V" } : Jvm.MethodName)),
  (Jvm.Cond.methodLink "WasteHouse$HazardRules" (280 : Nat) ({ cls := "java/lang/ArrayIndexOutOfBoundsException", name := "<init>", desc := "(Ljava/lang/String;)V" } : Jvm.MethodName)),
  (Jvm.Cond.laysFinal "WasteHouse$HazardRules$Words" "WasteHouse$HazardRules$Words" "bytes" "[B"),
  (Jvm.Cond.laysFinal "WasteHouse$RoundColumns" "WasteHouse$RoundColumns" "pairs" "[B"),
  (Jvm.Cond.methodLink "WasteHouse$RoundColumns" (153 : Nat) ({ cls := "java/lang/IllegalStateException", name := "<init>", desc := "(Ljava/lang/String;)V" } : Jvm.MethodName)),
  (Jvm.Cond.laysFinal "WasteHouse$BarredStores" "WasteHouse$BarredStores" "trials" "[B"),
  (Jvm.Cond.laysFinal "WasteHouse$BarredStores" "WasteHouse$BarredStores" "far" "[B"),
  (Jvm.Cond.laysFinal "WasteHouse$BarredStores" "WasteHouse$BarredStores" "stepLoads" "[B"),
  (Jvm.Cond.laysFinal "WasteHouse$BarredStores" "WasteHouse$BarredStores" "stepPlaces" "[B"),
  (Jvm.Cond.laysFinal "WasteHouse$PartGraphs" "WasteHouse$PartGraphs" "text" "[B"),
  (Jvm.Cond.laysFinal "WasteHouse$PartGraphs" "WasteHouse$PartGraphs" "written" "[B"),
  (Jvm.Cond.methodLink "WasteHouse$PartGraphs" (242 : Nat) ({ cls := "java/lang/ArrayIndexOutOfBoundsException", name := "<init>", desc := "(Ljava/lang/String;)V" } : Jvm.MethodName)),
  (Jvm.Cond.laysFinal "WasteHouse$PartGraphs$Product" "WasteHouse$PartGraphs$Product" "as" "[B"),
  (Jvm.Cond.laysFinal "WasteHouse$PartGraphs$Product" "WasteHouse$PartGraphs$Product" "bs" "[B"),
  (Jvm.Cond.laysFinal "WasteHouse$PartGraphs$Product" "WasteHouse$PartGraphs$Product" "kinds" "[B"),
  (Jvm.Cond.laysFinal "WasteHouse$TicketChain$Chain" "WasteHouse$TicketChain$Chain" "due" "[B"),
  (Jvm.Cond.laysFinal "WasteHouse$TicketChain$Chain" "WasteHouse$TicketChain$Chain" "heap" "[B"),
  (Jvm.Cond.laysFinal "WasteHouse$PurityOdds$Lot" "WasteHouse$PurityOdds$Lot" "places" "[B"),
  (Jvm.Cond.laysFinal "WasteHouse$DepositCodes$Bars" "WasteHouse$DepositCodes$Bars" "digits" "[B"),
  (Jvm.Cond.lays "WasteHouse$DepositCodes$Bars" "WasteHouse$DepositCodes$Bars" "last" "[B"),
  (Jvm.Cond.laysFinal "WasteHouse$TicketChain$Sum" "WasteHouse$TicketChain$Sum" "block" "[B"),
  (Jvm.Cond.laysFinal "WasteHouseModel" "WasteHouseModel" "tape" "[B"),
  (Jvm.Cond.laysFinal "WasteHouseModel" "WasteHouseModel" "printed" "[B"),
  (Jvm.Cond.laysFinal "WasteHouseModel$TicketChainModel" "WasteHouseModel$TicketChainModel" "bytes" "[B"),
  (Jvm.Cond.laysFinal "WasteHouseModel$TicketChainModel" "WasteHouseModel$TicketChainModel" "row" "[B"),
  (Jvm.Cond.laysFinal "WasteHouseModel$TicketChainModel" "WasteHouseModel$TicketChainModel" "result" "[B"),
  (Jvm.Cond.laysFinal "WasteHouseModel$TicketChainModel" "WasteHouseModel$TicketChainModel" "level" "[B"),
  (Jvm.Cond.laysFinal "WasteHouseModel$TicketChainModel" "WasteHouseModel$TicketChainModel" "form" "[B"),
  (Jvm.Cond.laysFinal "WasteHouseModel$HazardRulesModel" "WasteHouseModel$HazardRulesModel" "coming" "[B"),
  (Jvm.Cond.laysFinal "WasteHouseModel$HazardRulesModel" "WasteHouseModel$HazardRulesModel" "kept" "[B"),
  (Jvm.Cond.laysFinal "WasteHouseModel$PartGraphsModel" "WasteHouseModel$PartGraphsModel" "text" "[B"),
  (Jvm.Cond.lays "WasteHouse$TicketChain$Writer" "WasteHouse$TicketChain$Writer" "row" "[B"),
  (Jvm.Cond.arrayClass Jvm.ClassFile.FieldType.byte)]
theorem xc_ok : ∀ w ∈ xc_L, w ∈ lw_all ∨ (w ∈ lw_tbl ∧ aw_nk w = true) := by
  intro w hw
  unfold xc_L at hw
  rcases List.mem_cons.mp hw with e | hw
  · rw [e]; exact Or.inl q3728
  rcases List.mem_cons.mp hw with e | hw
  · rw [e]; exact Or.inl q2886
  rcases List.mem_cons.mp hw with e | hw
  · rw [e]; exact Or.inl q464
  rcases List.mem_cons.mp hw with e | hw
  · rw [e]; exact Or.inr ⟨q2775, rfl⟩
  rcases List.mem_cons.mp hw with e | hw
  · rw [e]; exact Or.inr ⟨q2776, rfl⟩
  rcases List.mem_cons.mp hw with e | hw
  · rw [e]; exact Or.inl q2780
  rcases List.mem_cons.mp hw with e | hw
  · rw [e]; exact Or.inl q2782
  rcases List.mem_cons.mp hw with e | hw
  · rw [e]; exact Or.inl q2784
  rcases List.mem_cons.mp hw with e | hw
  · rw [e]; exact Or.inl q2786
  rcases List.mem_cons.mp hw with e | hw
  · rw [e]; exact Or.inl q2788
  rcases List.mem_cons.mp hw with e | hw
  · rw [e]; exact Or.inl q2789
  rcases List.mem_cons.mp hw with e | hw
  · rw [e]; exact Or.inl q2790
  rcases List.mem_cons.mp hw with e | hw
  · rw [e]; exact Or.inl q2791
  rcases List.mem_cons.mp hw with e | hw
  · rw [e]; exact Or.inl q2792
  rcases List.mem_cons.mp hw with e | hw
  · rw [e]; exact Or.inl q2793
  rcases List.mem_cons.mp hw with e | hw
  · rw [e]; exact Or.inl q2794
  rcases List.mem_cons.mp hw with e | hw
  · rw [e]; exact Or.inl q2796
  rcases List.mem_cons.mp hw with e | hw
  · rw [e]; exact Or.inl q2798
  rcases List.mem_cons.mp hw with e | hw
  · rw [e]; exact Or.inl q2799
  rcases List.mem_cons.mp hw with e | hw
  · rw [e]; exact Or.inl q2804
  rcases List.mem_cons.mp hw with e | hw
  · rw [e]; exact Or.inl q2805
  rcases List.mem_cons.mp hw with e | hw
  · rw [e]; exact Or.inr ⟨q2806, rfl⟩
  rcases List.mem_cons.mp hw with e | hw
  · rw [e]; exact Or.inl q2807
  rcases List.mem_cons.mp hw with e | hw
  · rw [e]; exact Or.inl q2808
  rcases List.mem_cons.mp hw with e | hw
  · rw [e]; exact Or.inl q2809
  rcases List.mem_cons.mp hw with e | hw
  · rw [e]; exact Or.inl q2896
  rcases List.mem_cons.mp hw with e | hw
  · rw [e]; exact Or.inl q2897
  rcases List.mem_cons.mp hw with e | hw
  · rw [e]; exact Or.inl q2898
  rcases List.mem_cons.mp hw with e | hw
  · rw [e]; exact Or.inl q2899
  rcases List.mem_cons.mp hw with e | hw
  · rw [e]; exact Or.inl q2900
  rcases List.mem_cons.mp hw with e | hw
  · rw [e]; exact Or.inl q2901
  rcases List.mem_cons.mp hw with e | hw
  · rw [e]; exact Or.inl q2902
  rcases List.mem_cons.mp hw with e | hw
  · rw [e]; exact Or.inl q2903
  rcases List.mem_cons.mp hw with e | hw
  · rw [e]; exact Or.inl q2904
  rcases List.mem_cons.mp hw with e | hw
  · rw [e]; exact Or.inl q2905
  rcases List.mem_cons.mp hw with e | hw
  · rw [e]; exact Or.inl q2906
  rcases List.mem_cons.mp hw with e | hw
  · rw [e]; exact Or.inl q2908
  rcases List.mem_cons.mp hw with e | hw
  · rw [e]; exact Or.inl q2909
  rcases List.mem_cons.mp hw with e | hw
  · rw [e]; exact Or.inl q465
  rcases List.mem_cons.mp hw with e | hw
  · rw [e]; exact Or.inr ⟨q2773, rfl⟩
  rcases List.mem_cons.mp hw with e | hw
  · rw [e]; exact Or.inr ⟨q2774, rfl⟩
  rcases List.mem_cons.mp hw with e | hw
  · rw [e]; exact Or.inl q2893
  rcases List.mem_cons.mp hw with e | hw
  · rw [e]; exact Or.inl q2894
  rcases List.mem_cons.mp hw with e | hw
  · rw [e]; exact Or.inl q2895
  rcases List.mem_cons.mp hw with e | hw
  · rw [e]; exact Or.inl q4564
  rcases List.mem_cons.mp hw with e | hw
  · rw [e]; exact Or.inl q4565
  rcases List.mem_cons.mp hw with e | hw
  · rw [e]; exact Or.inl q4566
  rcases List.mem_cons.mp hw with e | hw
  · rw [e]; exact Or.inl q466
  rcases List.mem_cons.mp hw with e | hw
  · rw [e]; exact Or.inr ⟨q2771, rfl⟩
  rcases List.mem_cons.mp hw with e | hw
  · rw [e]; exact Or.inr ⟨q2772, rfl⟩
  rcases List.mem_cons.mp hw with e | hw
  · rw [e]; exact Or.inl q2890
  rcases List.mem_cons.mp hw with e | hw
  · rw [e]; exact Or.inl q2891
  rcases List.mem_cons.mp hw with e | hw
  · rw [e]; exact Or.inl q2892
  rcases List.mem_cons.mp hw with e | hw
  · rw [e]; exact Or.inl q4561
  rcases List.mem_cons.mp hw with e | hw
  · rw [e]; exact Or.inl q4562
  rcases List.mem_cons.mp hw with e | hw
  · rw [e]; exact Or.inl q4563
  rcases List.mem_cons.mp hw with e | hw
  · rw [e]; exact Or.inl q467
  rcases List.mem_cons.mp hw with e | hw
  · rw [e]; exact Or.inl q2802
  rcases List.mem_cons.mp hw with e | hw
  · rw [e]; exact Or.inl q4344
  rcases List.mem_cons.mp hw with e | hw
  · rw [e]; exact Or.inr ⟨q4345, rfl⟩
  rcases List.mem_cons.mp hw with e | hw
  · rw [e]; exact Or.inl q4346
  rcases List.mem_cons.mp hw with e | hw
  · rw [e]; exact Or.inl q4347
  rcases List.mem_cons.mp hw with e | hw
  · rw [e]; exact Or.inl q4348
  rcases List.mem_cons.mp hw with e | hw
  · rw [e]; exact Or.inl q4349
  rcases List.mem_cons.mp hw with e | hw
  · rw [e]; exact Or.inl q4350
  rcases List.mem_cons.mp hw with e | hw
  · rw [e]; exact Or.inl q4351
  rcases List.mem_cons.mp hw with e | hw
  · rw [e]; exact Or.inl q4354
  rcases List.mem_cons.mp hw with e | hw
  · rw [e]; exact Or.inl q4355
  rcases List.mem_cons.mp hw with e | hw
  · rw [e]; exact Or.inl q4356
  rcases List.mem_cons.mp hw with e | hw
  · rw [e]; exact Or.inl q4357
  rcases List.mem_cons.mp hw with e | hw
  · rw [e]; exact Or.inl q4558
  rcases List.mem_cons.mp hw with e | hw
  · rw [e]; exact Or.inl q4559
  rcases List.mem_cons.mp hw with e | hw
  · rw [e]; exact Or.inl q4560
  rcases List.mem_cons.mp hw with e | hw
  · rw [e]; exact Or.inl q468
  rcases List.mem_cons.mp hw with e | hw
  · rw [e]; exact Or.inl q2769
  rcases List.mem_cons.mp hw with e | hw
  · rw [e]; exact Or.inr ⟨q2770, rfl⟩
  rcases List.mem_cons.mp hw with e | hw
  · rw [e]; exact Or.inl q2777
  rcases List.mem_cons.mp hw with e | hw
  · rw [e]; exact Or.inl q2778
  rcases List.mem_cons.mp hw with e | hw
  · rw [e]; exact Or.inl q2779
  rcases List.mem_cons.mp hw with e | hw
  · rw [e]; exact Or.inl q2781
  rcases List.mem_cons.mp hw with e | hw
  · rw [e]; exact Or.inl q2783
  rcases List.mem_cons.mp hw with e | hw
  · rw [e]; exact Or.inl q2785
  rcases List.mem_cons.mp hw with e | hw
  · rw [e]; exact Or.inl q2787
  rcases List.mem_cons.mp hw with e | hw
  · rw [e]; exact Or.inl q2887
  rcases List.mem_cons.mp hw with e | hw
  · rw [e]; exact Or.inl q2888
  rcases List.mem_cons.mp hw with e | hw
  · rw [e]; exact Or.inl q2889
  rcases List.mem_cons.mp hw with e | hw
  · rw [e]; exact Or.inl q2907
  rcases List.mem_cons.mp hw with e | hw
  · rw [e]; exact Or.inl q2645
  rcases List.mem_cons.mp hw with e | hw
  · rw [e]; exact Or.inl q471
  rcases List.mem_cons.mp hw with e | hw
  · rw [e]; exact Or.inl q2737
  rcases List.mem_cons.mp hw with e | hw
  · rw [e]; exact Or.inl q2739
  rcases List.mem_cons.mp hw with e | hw
  · rw [e]; exact Or.inl q2740
  rcases List.mem_cons.mp hw with e | hw
  · rw [e]; exact Or.inl q2742
  rcases List.mem_cons.mp hw with e | hw
  · rw [e]; exact Or.inl q2743
  rcases List.mem_cons.mp hw with e | hw
  · rw [e]; exact Or.inl q2862
  rcases List.mem_cons.mp hw with e | hw
  · rw [e]; exact Or.inl q2866
  rcases List.mem_cons.mp hw with e | hw
  · rw [e]; exact Or.inl q2880
  rcases List.mem_cons.mp hw with e | hw
  · rw [e]; exact Or.inl q2928
  rcases List.mem_cons.mp hw with e | hw
  · rw [e]; exact Or.inl q2929
  rcases List.mem_cons.mp hw with e | hw
  · rw [e]; exact Or.inl q2930
  rcases List.mem_cons.mp hw with e | hw
  · rw [e]; exact Or.inl q2931
  rcases List.mem_cons.mp hw with e | hw
  · rw [e]; exact Or.inl q2932
  rcases List.mem_cons.mp hw with e | hw
  · rw [e]; exact Or.inl q2933
  rcases List.mem_cons.mp hw with e | hw
  · rw [e]; exact Or.inl q2934
  rcases List.mem_cons.mp hw with e | hw
  · rw [e]; exact Or.inl q2935
  rcases List.mem_cons.mp hw with e | hw
  · rw [e]; exact Or.inl q3047
  rcases List.mem_cons.mp hw with e | hw
  · rw [e]; exact Or.inl q3211
  rcases List.mem_cons.mp hw with e | hw
  · rw [e]; exact Or.inl q3215
  rcases List.mem_cons.mp hw with e | hw
  · rw [e]; exact Or.inl q3678
  rcases List.mem_cons.mp hw with e | hw
  · rw [e]; exact Or.inr ⟨q3866, rfl⟩
  rcases List.mem_cons.mp hw with e | hw
  · rw [e]; exact Or.inl q3867
  rcases List.mem_cons.mp hw with e | hw
  · rw [e]; exact Or.inr ⟨q3868, rfl⟩
  rcases List.mem_cons.mp hw with e | hw
  · rw [e]; exact Or.inl q3871
  rcases List.mem_cons.mp hw with e | hw
  · rw [e]; exact Or.inl q6613
  rcases List.mem_cons.mp hw with e | hw
  · rw [e]; exact Or.inl q6614
  rcases List.mem_cons.mp hw with e | hw
  · rw [e]; exact Or.inl q4588
  rcases List.mem_cons.mp hw with e | hw
  · rw [e]; exact Or.inl q4600
  rcases List.mem_cons.mp hw with e | hw
  · rw [e]; exact Or.inl q479
  rcases List.mem_cons.mp hw with e | hw
  · rw [e]; exact Or.inl q3244
  rcases List.mem_cons.mp hw with e | hw
  · rw [e]; exact Or.inl q3245
  rcases List.mem_cons.mp hw with e | hw
  · rw [e]; exact Or.inl q3246
  rcases List.mem_cons.mp hw with e | hw
  · rw [e]; exact Or.inr ⟨q3255, rfl⟩
  rcases List.mem_cons.mp hw with e | hw
  · rw [e]; exact Or.inr ⟨q3256, rfl⟩
  rcases List.mem_cons.mp hw with e | hw
  · rw [e]; exact Or.inl q480
  rcases List.mem_cons.mp hw with e | hw
  · rw [e]; exact Or.inl q2801
  rcases List.mem_cons.mp hw with e | hw
  · rw [e]; exact Or.inl q3240
  rcases List.mem_cons.mp hw with e | hw
  · rw [e]; exact Or.inl q3241
  rcases List.mem_cons.mp hw with e | hw
  · rw [e]; exact Or.inl q3242
  rcases List.mem_cons.mp hw with e | hw
  · rw [e]; exact Or.inl q3243
  rcases List.mem_cons.mp hw with e | hw
  · rw [e]; exact Or.inl q3247
  rcases List.mem_cons.mp hw with e | hw
  · rw [e]; exact Or.inl q3248
  rcases List.mem_cons.mp hw with e | hw
  · rw [e]; exact Or.inl q3249
  rcases List.mem_cons.mp hw with e | hw
  · rw [e]; exact Or.inl q3250
  rcases List.mem_cons.mp hw with e | hw
  · rw [e]; exact Or.inl q3251
  rcases List.mem_cons.mp hw with e | hw
  · rw [e]; exact Or.inl q3252
  rcases List.mem_cons.mp hw with e | hw
  · rw [e]; exact Or.inr ⟨q3254, rfl⟩
  rcases List.mem_cons.mp hw with e | hw
  · rw [e]; exact Or.inl q3257
  rcases List.mem_cons.mp hw with e | hw
  · rw [e]; exact Or.inl q4617
  rcases List.mem_cons.mp hw with e | hw
  · rw [e]; exact Or.inl q4643
  rcases List.mem_cons.mp hw with e | hw
  · rw [e]; exact Or.inl q501
  rcases List.mem_cons.mp hw with e | hw
  · rw [e]; exact Or.inl q2803
  rcases List.mem_cons.mp hw with e | hw
  · rw [e]; exact Or.inl q4599
  rcases List.mem_cons.mp hw with e | hw
  · rw [e]; exact Or.inl q4601
  rcases List.mem_cons.mp hw with e | hw
  · rw [e]; exact Or.inl q4602
  rcases List.mem_cons.mp hw with e | hw
  · rw [e]; exact Or.inl q4603
  rcases List.mem_cons.mp hw with e | hw
  · rw [e]; exact Or.inl q4604
  rcases List.mem_cons.mp hw with e | hw
  · rw [e]; exact Or.inl q4605
  rcases List.mem_cons.mp hw with e | hw
  · rw [e]; exact Or.inl q4606
  rcases List.mem_cons.mp hw with e | hw
  · rw [e]; exact Or.inl q4607
  rcases List.mem_cons.mp hw with e | hw
  · rw [e]; exact Or.inl q4608
  rcases List.mem_cons.mp hw with e | hw
  · rw [e]; exact Or.inl q4609
  rcases List.mem_cons.mp hw with e | hw
  · rw [e]; exact Or.inl q4557
  rcases List.mem_cons.mp hw with e | hw
  · rw [e]; exact Or.inl q512
  rcases List.mem_cons.mp hw with e | hw
  · rw [e]; exact Or.inl q513
  rcases List.mem_cons.mp hw with e | hw
  · rw [e]; exact Or.inl q4353
  rcases List.mem_cons.mp hw with e | hw
  · rw [e]; exact Or.inl q2574
  rcases List.mem_cons.mp hw with e | hw
  · rw [e]; exact Or.inl q2578
  rcases List.mem_cons.mp hw with e | hw
  · rw [e]; exact Or.inl q6651
  rcases List.mem_cons.mp hw with e | hw
  · rw [e]; exact Or.inl q6666
  rcases List.mem_cons.mp hw with e | hw
  · rw [e]; exact Or.inl q5044
  rcases List.mem_cons.mp hw with e | hw
  · rw [e]; exact Or.inl q958
  rcases List.mem_cons.mp hw with e | hw
  · rw [e]; exact Or.inl q1258
  rcases List.mem_cons.mp hw with e | hw
  · rw [e]; exact Or.inl q6110
  rcases List.mem_cons.mp hw with e | hw
  · rw [e]; exact Or.inl q1386
  rcases List.mem_cons.mp hw with e | hw
  · rw [e]; exact Or.inl q1392
  rcases List.mem_cons.mp hw with e | hw
  · rw [e]; exact Or.inl q1396
  rcases List.mem_cons.mp hw with e | hw
  · rw [e]; exact Or.inl q1398
  rcases List.mem_cons.mp hw with e | hw
  · rw [e]; exact Or.inl q1512
  rcases List.mem_cons.mp hw with e | hw
  · rw [e]; exact Or.inl q1520
  rcases List.mem_cons.mp hw with e | hw
  · rw [e]; exact Or.inl q5938
  rcases List.mem_cons.mp hw with e | hw
  · rw [e]; exact Or.inl q1481
  rcases List.mem_cons.mp hw with e | hw
  · rw [e]; exact Or.inl q1483
  rcases List.mem_cons.mp hw with e | hw
  · rw [e]; exact Or.inl q1485
  rcases List.mem_cons.mp hw with e | hw
  · rw [e]; exact Or.inl q672
  rcases List.mem_cons.mp hw with e | hw
  · rw [e]; exact Or.inl q674
  rcases List.mem_cons.mp hw with e | hw
  · rw [e]; exact Or.inl q1708
  rcases List.mem_cons.mp hw with e | hw
  · rw [e]; exact Or.inl q1780
  rcases List.mem_cons.mp hw with e | hw
  · rw [e]; exact Or.inl q1782
  rcases List.mem_cons.mp hw with e | hw
  · rw [e]; exact Or.inl q573
  rcases List.mem_cons.mp hw with e | hw
  · rw [e]; exact Or.inl q7562
  rcases List.mem_cons.mp hw with e | hw
  · rw [e]; exact Or.inl q7568
  rcases List.mem_cons.mp hw with e | hw
  · rw [e]; exact Or.inl q6737
  rcases List.mem_cons.mp hw with e | hw
  · rw [e]; exact Or.inl q6745
  rcases List.mem_cons.mp hw with e | hw
  · rw [e]; exact Or.inl q6749
  rcases List.mem_cons.mp hw with e | hw
  · rw [e]; exact Or.inl q6757
  rcases List.mem_cons.mp hw with e | hw
  · rw [e]; exact Or.inl q6759
  rcases List.mem_cons.mp hw with e | hw
  · rw [e]; exact Or.inl q6916
  rcases List.mem_cons.mp hw with e | hw
  · rw [e]; exact Or.inl q6920
  rcases List.mem_cons.mp hw with e | hw
  · rw [e]; exact Or.inl q7206
  rcases List.mem_cons.mp hw with e | hw
  · rw [e]; exact Or.inl q587
  rcases List.mem_cons.mp hw with e | hw
  · rw [e]; exact Or.inl q578
  exact absurd hw List.not_mem_nil
theorem xc_hat {L : List Cond} (h : L.all (fun w => List.elem w xc_L) = true) : ∀ w ∈ L, w ∈ lw_all ∨ (w ∈ lw_tbl ∧ aw_nk w = true) := fun w hw => xc_ok w (List.elem_iff.mp (List.all_eq_true.mp h w hw))
theorem xc_hM : (vx_atM "java/lang/ArrayIndexOutOfBoundsException" ["java/lang/IndexOutOfBoundsException", "java/lang/RuntimeException", "java/lang/Exception"]).all (fun w => List.elem w xc_L) = true := by decide +kernel
theorem xc_gM : (vx_atM "java/lang/ArrayIndexOutOfBoundsException" ["java/lang/IndexOutOfBoundsException", "java/lang/RuntimeException", "java/lang/Exception"]).all vx_ot = true := by decide +kernel
